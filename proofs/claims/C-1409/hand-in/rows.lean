section
theorem pk_us {f : Nat → Int32} {k : Nat} {x : Int32} : upd f k x k = x := if_pos rfl
theorem pk_un {f : Nat → Int32} {k j : Nat} {x : Int32} (h : j ≠ k) : upd f k x j = f j := if_neg h
theorem pk_sub {a b : Nat} (h : b ≤ a) : nI a - nI b = nI (a - b) := by
  obtain ⟨c, rfl⟩ : ∃ c, a = c + b := ⟨a - b, by omega⟩
  rw [← nI_add, Int32.add_sub_cancel, Nat.add_sub_cancel]
theorem pk_m1 (n : Nat) : nI (n + 1) + (-1) = nI n := by
  rw [← nI_1, Int32.add_assoc, show (1 : Int32) + (-1) = 0 from rfl, Int32.add_zero]
theorem pk_mul (a b : Nat) : nI a * nI b = nI (a * b) := (Int32.ofNat_mul a b).symm
theorem pk_div {a d : Nat} (ha : a < 2 ^ 31) (h0 : 0 < d) (hd : d < 2 ^ 31) : nI a / nI d = nI (a / d) := by
  apply Int32.toInt_inj.mp
  rw [lg_idiv_nonneg (by rw [nI_toInt ha]; omega) (by rw [nI_toInt hd]; omega), nI_toInt ha, nI_toInt hd, nI_toInt (Nat.lt_of_le_of_lt (Nat.div_le_self a d) ha)]
  first | rfl | exact (Int.natCast_ediv _ _).symm
theorem pk_rem {a d : Nat} (ha : a < 2 ^ 31) (h0 : 0 < d) (hd : d < 2 ^ 31) : nI a - nI a / nI d * nI d = nI (a % d) := by
  rw [pk_div ha h0 hd, pk_mul, pk_sub (Nat.div_mul_le_self a d)]
  exact congrArg nI (by have := Nat.div_add_mod' a d; omega)
theorem pk_sub_toInt {a b : Nat} (ha : a < 2 ^ 30) (hb : b < 2 ^ 30) : (nI a - nI b).toInt = (a : Int) - b := by
  rw [Int32.toInt_sub, nI_toInt (by omega), nI_toInt (by omega)]
  exact Int.bmod_eq_of_le (by omega) (by omega)
theorem pk_sneg {a b : Nat} (hb : b < 2 ^ 30) (h : a < b) : nI a - nI b < 0 := by
  rw [Int32.lt_iff_toInt_lt, pk_sub_toInt (by omega) hb, show (0 : Int32).toInt = 0 from by decide]
  omega
theorem pk_ix (x : Int32) {n : Nat} (hn : n < 2 ^ 31) : x < 0 ∨ nI n ≤ x ∨ ∃ j : Nat, j < n ∧ x = nI j := by
  by_cases h : x < 0
  · exact Or.inl h
  · obtain ⟨j, hj, rfl⟩ := nI_of h
    by_cases h2 : j < n
    · exact Or.inr (Or.inr ⟨j, h2, rfl⟩)
    · exact Or.inr (Or.inl (nI_le (by omega) hj))
theorem pk_le {x y : Int32} {A B : Prop} (a b : Nat) (f : a ≤ b → A) (g : b < a → B) (hx : x = nI a := by rfl) (hy : y = nI b := by rfl) (ha : a < 2 ^ 31 := by omega) (hb : b < 2 ^ 31 := by omega) : (x ≤ y → A) ∧ (¬ x ≤ y → B) := by
  subst hx hy
  rw [nI_leI ha hb]
  exact ⟨f, fun z => g (by omega)⟩
theorem pk_lt {x y : Int32} {A B : Prop} (a b : Nat) (f : a < b → A) (g : b ≤ a → B) (hx : x = nI a := by rfl) (hy : y = nI b := by rfl) (ha : a < 2 ^ 31 := by omega) (hb : b < 2 ^ 31 := by omega) : (x < y → A) ∧ (¬ x < y → B) := by
  subst hx hy
  rw [nI_ltI ha hb]
  exact ⟨f, fun z => g (by omega)⟩
theorem pk_eq {x y : Int32} {A B : Prop} (a b : Nat) (f : a = b → A) (g : a ≠ b → B) (hx : x = nI a := by rfl) (hy : y = nI b := by rfl) (ha : a < 2 ^ 31 := by omega) (hb : b < 2 ^ 31 := by omega) : (x = y → A) ∧ (¬ x = y → B) := by
  subst hx hy
  rw [nI_eq ha hb]
  exact ⟨f, g⟩
theorem pk_in {x : Int32} (n N : Nat) (h : n < N) (hx : x = nI n := by rfl) (hN : N < 2 ^ 31 := by omega) : vp_in x N := by
  subst hx
  exact vp_in_nI h hN
theorem pk_cl {x : Int32} (n : Nat) (hx : x = nI n := by rfl) (h : n < 2 ^ 31 := by omega) : x.toNatClampNeg = n := by
  subst hx
  exact nI_clamp h
theorem pk_tn {n : Nat} (h : n < 2 ^ 32) : (nI n).toBitVec.toNat = n := Nat.mod_eq_of_lt h
theorem pk_and (x : Int32) {m : Int32} (k : Nat) (hm : m.toBitVec.toNat = 2 ^ k - 1) : x &&& m = nI (x.toBitVec.toNat % 2 ^ k) := by
  apply Int32.toBitVec_inj.mp
  apply BitVec.eq_of_toNat_eq
  rw [Int32.toBitVec_and, BitVec.toNat_and, hm, Nat.and_two_pow_sub_one_eq_mod]
  show _ = (BitVec.ofNat 32 _).toNat
  rw [BitVec.toNat_ofNat]
  exact (Nat.mod_eq_of_lt (Nat.lt_of_le_of_lt (Nat.mod_le _ _) x.toBitVec.isLt)).symm
theorem pk_andN {n : Nat} (h : n < 2 ^ 32) {m : Int32} (k : Nat) (hm : m.toBitVec.toNat = 2 ^ k - 1) : nI n &&& m = nI (n % 2 ^ k) := by
  rw [pk_and _ k hm, pk_tn h]
theorem pk_andE (x : Int32) {m : Int32} (k : Nat) (hm : m.toBitVec.toNat = 2 ^ k - 1) : ∃ j : Nat, j < 2 ^ k ∧ x &&& m = nI j := ⟨_, Nat.mod_lt _ (Nat.two_pow_pos k), pk_and x k hm⟩
theorem pk_andIn (x : Int32) {m : Int32} (k : Nat) (hm : m.toBitVec.toNat = 2 ^ k - 1) (hk : k ≤ 30) : vp_in (x &&& m) (2 ^ k) := by
  obtain ⟨j, hj, e⟩ := pk_andE x k hm
  rw [e]
  exact vp_in_nI hj (Nat.lt_of_le_of_lt (Nat.pow_le_pow_right (by decide) hk) (by decide))
theorem pk_vb (z : Int32) : vp_nar .byte z.toInt8.toInt32 = z.toInt8.toInt32 := by rw [vp_nar_byte]; simp
theorem pk_least (P : Nat → Prop) (h : ∃ k, P k) : ∃ k, P k ∧ ∀ j, j < k → ¬ P j := by
  obtain ⟨k, hk⟩ := h
  induction k using Nat.strongRecOn with
  | ind k ih =>
    by_cases e : ∃ j, j < k ∧ P j
    · obtain ⟨j, hj, pj⟩ := e
      exact ih j hj pj
    · exact ⟨k, hk, fun j hj pj => e ⟨j, hj, pj⟩⟩
def bt (x : Int32) (i : Nat) : Bool := x.toBitVec.getLsbD i
theorem b_ext {x y : Int32} (h : ∀ i, i < 32 → bt x i = bt y i) : x = y := Int32.toBitVec_inj.mp (BitVec.eq_of_getLsbD_eq (fun i hi => h i hi))
theorem b_or (x y : Int32) (i : Nat) : bt (x ||| y) i = (bt x i || bt y i) := by unfold bt; rw [Int32.toBitVec_or, BitVec.getLsbD_or]
theorem b_and (x y : Int32) (i : Nat) : bt (x &&& y) i = (bt x i && bt y i) := by unfold bt; rw [Int32.toBitVec_and, BitVec.getLsbD_and]
theorem b_xor (x y : Int32) (i : Nat) : bt (x ^^^ y) i = (bt x i ^^ bt y i) := by unfold bt; rw [Int32.toBitVec_xor, BitVec.getLsbD_xor]
theorem b_big {x : Int32} {i : Nat} (h : 32 ≤ i) : bt x i = false := BitVec.getLsbD_of_ge _ _ h
theorem b_255 (i : Nat) : bt 255 i = decide (i < 8) := by
  rcases Nat.lt_or_ge i 32 with h | h
  · exact (by decide +kernel : ∀ i, i < 32 → bt 255 i = decide (i < 8)) i h
  · rw [b_big h, decide_eq_false (by omega)]
theorem b_65535 (i : Nat) : bt 65535 i = decide (i < 16) := by
  rcases Nat.lt_or_ge i 32 with h | h
  · exact (by decide +kernel : ∀ i, i < 32 → bt 65535 i = decide (i < 16)) i h
  · rw [b_big h, decide_eq_false (by omega)]
theorem b_m1 : ∀ i, i < 32 → bt (-1) i = true := by decide +kernel
theorem b_0 (i : Nat) : bt 0 i = false := BitVec.getLsbD_zero
theorem s_l : ∀ n, n < 32 → ((nI n &&& 31).toBitVec.smod 32).toNat = n := by decide +kernel
theorem s_u : ∀ n, n < 32 → (((nI n).toUInt32 &&& Int32.toUInt32 31).toBitVec % 32).toNat = n := by decide +kernel
theorem b_shl (n : Nat) (hn : n < 32) (x : Int32) {i : Nat} (hi : i < 32) : bt (x <<< (nI n &&& 31)) i = (decide (n ≤ i) && bt x (i - n)) := by
  unfold bt
  rw [Int32.toBitVec_shiftLeft]
  show (x.toBitVec <<< ((nI n &&& 31).toBitVec.smod 32).toNat).getLsbD i = _
  rw [s_l n hn, BitVec.getLsbD_shiftLeft]
  rcases Nat.lt_or_ge i n with h | h
  · simp [h, Nat.not_le.mpr h]
  · simp [hi, h, Nat.not_lt.mpr h]
theorem b_ushr (n : Nat) (hn : n < 32) (x : Int32) (i : Nat) : bt ((x.toUInt32 >>> ((nI n).toUInt32 &&& Int32.toUInt32 31)).toInt32) i = bt x (n + i) := by
  show (x.toUInt32 >>> ((nI n).toUInt32 &&& Int32.toUInt32 31)).toBitVec.getLsbD i = x.toUInt32.toBitVec.getLsbD (n + i)
  rw [UInt32.toBitVec_shiftRight]
  show (x.toUInt32.toBitVec >>> (((nI n).toUInt32 &&& Int32.toUInt32 31).toBitVec % 32).toNat).getLsbD i = _
  rw [s_u n hn, BitVec.getLsbD_ushiftRight]
theorem b_sshr (n : Nat) (hn : n < 32) (x : Int32) {i : Nat} (hi : i < 32) : bt (x >>> (nI n &&& 31)) i = if n + i < 32 then bt x (n + i) else bt x 31 := by
  unfold bt
  rw [Int32.toBitVec_shiftRight]
  show (x.toBitVec.sshiftRight ((nI n &&& 31).toBitVec.smod 32).toNat).getLsbD i = _
  rw [s_l n hn, BitVec.getLsbD_sshiftRight, BitVec.msb_eq_getLsbD_last]
  simp [hi]
theorem ek_if {c d A B : Prop} (e : c ↔ d) (f : d → A) (g : ¬ d → B) : (c → A) ∧ (¬ c → B) :=
  ⟨fun z => f (e.mp z), fun z => g (fun y => z (e.mpr y))⟩
theorem ek_v {α : Sort _} {P : α → Prop} {a b : α} (e : a = b) (h : P b) : P a := e ▸ h
theorem fx {α V : Type} [Inhabited V] (μ : α → Nat) (F : (α → V) → α → V) : ∃ f : α → V, ∀ a, f a = F (fun b => if μ b < μ a then f b else default) a := by
  refine ⟨(measure μ).wf.fix (fun a r => F (fun b => if h : μ b < μ a then r b h else default) a), fun a => ?_⟩
  rw [WellFounded.fix_eq]
  apply congrArg (fun z => F z a)
  funext b
  by_cases h : μ b < μ a <;> simp [h]
noncomputable def b01 (P : Prop) : Nat := @ite Nat P (Classical.propDecidable P) 1 0
theorem b01_t {P : Prop} (h : P) : b01 P = 1 := by unfold b01; rw [if_pos h]
theorem b01_f {P : Prop} (h : ¬ P) : b01 P = 0 := by unfold b01; rw [if_neg h]
theorem b01_le (P : Prop) : b01 P ≤ 1 := by
  rcases Classical.em P with h | h
  · rw [b01_t h]; omega
  · rw [b01_f h]; omega
theorem b01_mono {P Q : Prop} (h : P → Q) : b01 P ≤ b01 Q := by
  rcases Classical.em P with hp | hp
  · rw [b01_t hp, b01_t (h hp)]; omega
  · rw [b01_f hp]; omega
noncomputable def cn (P : Nat → Prop) : Nat → Nat
  | 0 => 0
  | k + 1 => cn P k + b01 (P k)
theorem cn_mono {P Q : Nat → Prop} : ∀ {N : Nat}, (∀ k, k < N → P k → Q k) → cn P N ≤ cn Q N
  | 0, _ => Nat.le_refl _
  | N + 1, h => by
    have a := cn_mono (P := P) (Q := Q) (N := N) (fun k hk => h k (by omega))
    have b := b01_mono (h N (by omega))
    simp only [cn]; omega
theorem cn_lt {P Q : Nat → Prop} {a : Nat} (hp : ¬ P a) (hq : Q a) : ∀ {N : Nat}, (∀ k, k < N → P k → Q k) → a < N → cn P N < cn Q N
  | 0, _, h => by omega
  | N + 1, h, ha => by
    simp only [cn]
    rcases Nat.lt_or_ge a N with z | z
    · have x := cn_lt hp hq (N := N) (fun k hk => h k (by omega)) z
      have b := b01_mono (h N (by omega))
      omega
    · have e : a = N := by omega
      subst e
      have x := cn_mono (P := P) (Q := Q) (N := a) (fun k hk => h k (by omega))
      rw [b01_t hq, b01_f hp]; omega
theorem cn_le (P : Nat → Prop) : ∀ N, cn P N ≤ N
  | 0 => Nat.le_refl _
  | N + 1 => by have := cn_le P N; have := b01_le (P N); simp only [cn]; omega
theorem cn_eq {P Q : Nat → Prop} {N : Nat} (h : ∀ k, k < N → (P k ↔ Q k)) : cn P N = cn Q N :=
  Nat.le_antisymm (cn_mono fun k hk => (h k hk).mp) (cn_mono fun k hk => (h k hk).mpr)
theorem cn_add {P : Nat → Prop} {a : Nat} (hp : ¬ P a) : ∀ {N : Nat}, a < N → cn (fun k => P k ∨ k = a) N = cn P N + 1
  | 0, h => by omega
  | N + 1, h => by
    simp only [cn]
    rcases Nat.lt_or_ge a N with z | z
    · rw [cn_add hp z]
      have : b01 (P N ∨ N = a) = b01 (P N) := Nat.le_antisymm (b01_mono fun q => q.elim id (fun e => by omega)) (b01_mono Or.inl)
      omega
    · have e : a = N := by omega
      subst e
      rw [cn_eq (P := fun k => P k ∨ k = a) (Q := P) (fun k hk => ⟨fun q => q.elim id (fun e => by omega), Or.inl⟩), b01_t (Or.inr rfl), b01_f hp]
end
section
/-! own base rows: numbers, options, bits, the calls has / bit / within / in -/
theorem sd_10 : ((1 : Int32) = 0) = False := by decide
theorem sd_1p : ((1 : Int32) = 0) ↔ False := by decide
theorem sd_z : nI 0 = 0 := nI_0
def oI : Option Nat → Int32
  | none => -1
  | some m => nI m
theorem oI_n : oI none = -1 := rfl
theorem oI_s (m : Nat) : oI (some m) = nI m := rfl
def nF (f : Nat → Nat) : Nat → Int32 := fun j => nI (f j)
theorem nF_a (f : Nat → Nat) (j : Nat) : nF f j = nI (f j) := rfl
def oF (f : Nat → Option Nat) : Nat → Int32 := fun j => oI (f j)
theorem oF_a (f : Nat → Option Nat) (j : Nat) : oF f j = oI (f j) := rfl
theorem oI_ltn {o : Option Nat} (h : o = none) : oI o < 0 := by rw [h]; decide
theorem oI_nlt {o : Option Nat} {m : Nat} (h : o = some m) (hm : m < 2 ^ 31) : ¬ oI o < 0 := by rw [h]; exact nI_pos hm
theorem oI_len {o : Option Nat} (h : o = none) : ¬ 0 ≤ oI o := by rw [h]; decide
theorem oI_le {o : Option Nat} {m : Nat} (h : o = some m) (hm : m < 2 ^ 31) : 0 ≤ oI o := by rw [h]; exact nI_pos' hm
theorem sd_m1n : (-1 : Int32) < 0 := by decide
theorem sd_m1l : ¬ (0 : Int32) ≤ -1 := by decide
theorem sd_inj {a b : Nat} (ha : a < 2 ^ 31) (hb : b < 2 ^ 31) (h : nI a = nI b) : a = b := (nI_eq ha hb).mp h
theorem sd_ne1 {a : Nat} (ha : a < 2 ^ 31) : ¬ nI a = -1 := fun h => absurd (nI_pos ha) (by rw [h]; decide)
theorem oI_inj {a b : Option Nat} (ha : ∀ m, a = some m → m < 2 ^ 31) (hb : ∀ m, b = some m → m < 2 ^ 31) (h : oI a = oI b) : a = b := by
  cases a with
  | none => cases b with
    | none => rfl
    | some m => exact absurd h.symm (sd_ne1 (hb m rfl))
  | some k => cases b with
    | none => exact absurd h (sd_ne1 (ha k rfl))
    | some m => rw [sd_inj (ha k rfl) (hb m rfl) h]
/-- a pure function with one value changed -/
def un (f : Nat → Nat) (k v : Nat) : Nat → Nat := fun j => if j = k then v else f j
def uo (f : Nat → Option Nat) (k : Nat) (v : Option Nat) : Nat → Option Nat := fun j => if j = k then v else f j
theorem un_s {f : Nat → Nat} {k v : Nat} : un f k v k = v := if_pos rfl
theorem un_n {f : Nat → Nat} {k v j : Nat} (h : j ≠ k) : un f k v j = f j := if_neg h
theorem uo_s {f : Nat → Option Nat} {k : Nat} {v : Option Nat} : uo f k v k = v := if_pos rfl
theorem uo_n {f : Nat → Option Nat} {k : Nat} {v : Option Nat} {j : Nat} (h : j ≠ k) : uo f k v j = f j := if_neg h
theorem nF_u (f : Nat → Nat) (k v : Nat) : upd (nF f) k (nI v) = nF (un f k v) := by
  funext j; unfold upd nF un; split <;> rfl
theorem oF_u (f : Nat → Option Nat) (k : Nat) (v : Option Nat) : upd (oF f) k (oI v) = oF (uo f k v) := by
  funext j; unfold upd oF uo; split <;> rfl
/-! narrowing -/
theorem sd_nb8 : ∀ m, m < 128 → (nI m).toInt8.toInt32 = nI m := by decide +kernel
theorem sd_nbm : ((-1 : Int32)).toInt8.toInt32 = -1 := by decide
theorem sd_vb {m : Nat} (h : m < 128) : vp_nar .byte (nI m) = nI m := by rw [vp_nar_byte, sd_nb8 m h]
theorem sd_vbb {m : Nat} (h : m < 128) : vp_nar .byte (nI m).toInt8.toInt32 = nI m := by rw [sd_nb8 m h, sd_vb h]
theorem sd_vbm : vp_nar .byte (-1) = -1 := by rw [vp_nar_byte]; decide
theorem sd_vbmm : vp_nar .byte ((-1 : Int32)).toInt8.toInt32 = -1 := by rw [sd_nbm, sd_vbm]
theorem sd_vb0 : vp_nar .byte 0 = 0 := by rw [vp_nar_byte]; decide
theorem sd_vb6 : vp_nar .byte 6 = nI 6 := sd_vb (m := 6) (by decide)
theorem sd_vo {o : Option Nat} (h : ∀ m, o = some m → m < 128) : vp_nar .byte (oI o) = oI o := by
  cases o with
  | none => exact sd_vbm
  | some m => exact sd_vb (h m rfl)
theorem sd_voo {o : Option Nat} (h : ∀ m, o = some m → m < 128) : vp_nar .byte (oI o).toInt8.toInt32 = oI o := by
  cases o with
  | none => exact sd_vbmm
  | some m => exact sd_vbb (h m rfl)
theorem sd_bo0 : vp_nar .boolean 0 = 0 := rfl
theorem sd_bo1 : vp_nar .boolean 1 = 1 := rfl
/-! products and quotients -/
theorem sd_x2 (c : Nat) : (2 : Int32) * nI c = nI (2 * c) := pk_mul 2 c
theorem sd_x6 (c : Nat) : (6 : Int32) * nI c = nI (6 * c) := pk_mul 6 c
theorem sd_x8 (c : Nat) : (8 : Int32) * nI c = nI (8 * c) := pk_mul 8 c
theorem sd_x10 (c : Nat) : (10 : Int32) * nI c = nI (10 * c) := pk_mul 10 c
theorem sd_x24 (c : Nat) : (24 : Int32) * nI c = nI (24 * c) := pk_mul 24 c
theorem sd_x32 (c : Nat) : (32 : Int32) * nI c = nI (32 * c) := pk_mul 32 c
theorem sd_x8r (c : Nat) : nI c * (8 : Int32) = nI (c * 8) := pk_mul c 8
theorem sd_d6 {k : Nat} (h : k < 2 ^ 31) : nI k / 6 = nI (k / 6) := pk_div (d := 6) h (by decide) (by decide)
theorem sd_d10 {k : Nat} (h : k < 2 ^ 31) : nI k / 10 = nI (k / 10) := pk_div (d := 10) h (by decide) (by decide)
theorem sd_r6 {k : Nat} (h : k < 2 ^ 31) : nI k - nI k / 6 * 6 = nI (k % 6) := pk_rem (d := 6) h (by decide) (by decide)
theorem sd_r10 {k : Nat} (h : k < 2 ^ 31) : nI k - nI k / 10 * 10 = nI (k % 10) := pk_rem (d := 10) h (by decide) (by decide)
theorem sd_1a (n : Nat) : (1 : Int32) + nI n = nI (1 + n) := nI_add 1 n
theorem sd_2a (n : Nat) : nI n + 2 = nI (n + 2) := nI_add n 2
theorem sd_60 : ¬ (6 : Int32) = 0 := by decide
theorem sd_100 : ¬ (10 : Int32) = 0 := by decide
/-! bits -/
theorem b_1 (i : Nat) : bt 1 i = decide (i = 0) := by
  rcases Nat.lt_or_ge i 32 with h | h
  · exact (by decide +kernel : ∀ i, i < 32 → bt 1 i = decide (i = 0)) i h
  · rw [b_big h, decide_eq_false (by omega)]
theorem sd_a1 (y : Int32) : y &&& 1 = 1 ↔ bt y 0 = true := by
  constructor
  · intro h
    have e : bt (y &&& 1) 0 = true := by rw [h]; decide
    rw [b_and] at e
    simp at e
    exact e.1
  · intro h
    apply b_ext
    intro i hi
    rw [b_and, b_1]
    by_cases z : i = 0
    · subst z; rw [h]; decide
    · simp [z]
theorem sd_bit {x : Int32} {k : Nat} (hk : k < 32) : ((x >>> (nI k &&& 31)) &&& 1) = 1 ↔ bt x k = true := by
  rw [sd_a1, b_sshr k hk x (by decide), if_pos (by omega), Nat.add_zero]
theorem b_sh1 {k : Nat} (hk : k < 32) (i : Nat) : bt ((1 : Int32) <<< (nI k &&& 31)) i = decide (i = k) := by
  rcases Nat.lt_or_ge i 32 with h | h
  · rw [b_shl k hk 1 h, b_1]
    by_cases z : i = k
    · subst z; simp
    · by_cases y : k ≤ i
      · have : ¬ i - k = 0 := by omega
        simp [z, this]
      · simp [z, y]
  · rw [b_big h, decide_eq_false (by omega)]
theorem b_or1 {x : Int32} {k : Nat} (hk : k < 32) (i : Nat) : bt (x ||| ((1 : Int32) <<< (nI k &&& 31))) i = (bt x i || decide (i = k)) := by
  rw [b_or, b_sh1 hk]
theorem b_or1s {x : Int32} {k : Nat} (hk : k < 32) : bt (x ||| ((1 : Int32) <<< (nI k &&& 31))) k = true := by
  rw [b_or1 hk]; simp
theorem b_or1o {x : Int32} {k i : Nat} (hk : k < 32) (h : bt x i = true) : bt (x ||| ((1 : Int32) <<< (nI k &&& 31))) i = true := by
  rw [b_or1 hk, h]; rfl
theorem b_or1i {x : Int32} {k i : Nat} (hk : k < 32) (h : bt (x ||| ((1 : Int32) <<< (nI k &&& 31))) i = true) : bt x i = true ∨ i = k := by
  rw [b_or1 hk] at h; simpa using h
theorem b_ori {x y : Int32} {i : Nat} (h : bt (x ||| y) i = true) : bt x i = true ∨ bt y i = true := by
  rw [b_or] at h; simpa using h
theorem b_orl {x y : Int32} {i : Nat} (h : bt x i = true) : bt (x ||| y) i = true := by rw [b_or, h]; rfl
theorem b_orr {x y : Int32} {i : Nat} (h : bt y i = true) : bt (x ||| y) i = true := by rw [b_or, h]; simp
theorem b_lt {x : Int32} {i : Nat} (h : bt x i = true) : i < 32 := by
  rcases Nat.lt_or_ge i 32 with z | z
  · exact z
  · rw [b_big z] at h; cases h
theorem b_and0 {x y : Int32} : x &&& y = 0 ↔ ∀ i, ¬ (bt x i = true ∧ bt y i = true) := by
  constructor
  · intro h i hi
    have e : bt (x &&& y) i = false := by rw [h, b_0]
    rw [b_and, hi.1, hi.2] at e
    cases e
  · intro h
    apply b_ext
    intro i _
    rw [b_and, b_0]
    have := h i
    cases hx : bt x i <;> cases hy : bt y i <;> simp_all
theorem b_nf {x : Bool} (h : ¬ x = true) : x = false := by cases x <;> simp_all
theorem b_iff {x y : Int32} (h : ∀ i, i < 32 → (bt x i = true ↔ bt y i = true)) : x = y := by
  apply b_ext
  intro i hi
  have := h i hi
  cases hx : bt x i <;> cases hy : bt y i <;> simp_all
/-! the calls has, bit, within, in -/
theorem xh_t {post : Int32 → Prop} {x : Int32} {k : Nat} (h : bt x k = true) (p : post 1) : wpX_has post x (nI k) := br_t ((sd_bit (b_lt h)).mpr h) p
theorem xh_f {post : Int32 → Prop} {x : Int32} {k : Nat} (hk : k < 32) (h : bt x k = false) (p : post 0) : wpX_has post x (nI k) := br_f (fun z => by rw [(sd_bit hk).mp z] at h; cases h) p
theorem xh_c {post : Int32 → Prop} {x : Int32} {k : Nat} (hk : k < 32) (f : bt x k = true → post 1) (g : bt x k = false → post 0) : wpX_has post x (nI k) := by
  cases h : bt x k
  · exact xh_f hk h (g h)
  · exact xh_t h (f h)
theorem yh_t {post : Int32 → Prop} {x : Int32} {k : Nat} (h : bt x k = true) (p : post 1) : wpY_bit post x (nI k) := br_t ((sd_bit (b_lt h)).mpr h) p
theorem yh_f {post : Int32 → Prop} {x : Int32} {k : Nat} (hk : k < 32) (h : bt x k = false) (p : post 0) : wpY_bit post x (nI k) := br_f (fun z => by rw [(sd_bit hk).mp z] at h; cases h) p
theorem yh_c {post : Int32 → Prop} {x : Int32} {k : Nat} (hk : k < 32) (f : bt x k = true → post 1) (g : bt x k = false → post 0) : wpY_bit post x (nI k) := by
  cases h : bt x k
  · exact yh_f hk h (g h)
  · exact yh_t h (f h)
/-- with the two branches behind: r = 0 (the bit is not set) or not -/
theorem xh_b {x : Int32} {k : Nat} {A B : Prop} (hk : k < 32) (f : bt x k = false → A) (g : bt x k = true → B) : wpX_has (fun r => (r = 0 → A) ∧ (¬ r = 0 → B)) x (nI k) :=
  xh_c hk (fun h => br_f (by decide) (g h)) (fun h => br_t rfl (f h))
theorem yh_b {x : Int32} {k : Nat} {A B : Prop} (hk : k < 32) (f : bt x k = false → A) (g : bt x k = true → B) : wpY_bit (fun r => (r = 0 → A) ∧ (¬ r = 0 → B)) x (nI k) :=
  yh_c hk (fun h => br_f (by decide) (g h)) (fun h => br_t rfl (f h))
theorem xw_b {x y : Int32} {A B : Prop} (f : ¬ (0 ≤ x ∧ x < y) → A) (g : 0 ≤ x ∧ x < y → B) : wpX_within (fun r => (r = 0 → A) ∧ (¬ r = 0 → B)) x y := by
  refine br_c (fun h => br_t rfl (f fun z => ?_)) (fun h => br_c (fun h2 => br_t rfl (f fun z => ?_)) (fun h2 => br_f (by decide) (g ⟨Int32.not_lt.mp h, Int32.not_le.mp h2⟩)))
  · exact Int32.not_lt.mpr z.1 h
  · exact Int32.not_lt.mpr h2 z.2
theorem yw_b {x y : Int32} {A B : Prop} (f : ¬ (0 ≤ x ∧ x < y) → A) (g : 0 ≤ x ∧ x < y → B) : wpY_in (fun r => (r = 0 → A) ∧ (¬ r = 0 → B)) x y := by
  refine br_c (fun h => br_t rfl (f fun z => ?_)) (fun h => br_c (fun h2 => br_t rfl (f fun z => ?_)) (fun h2 => br_f (by decide) (g ⟨Int32.not_lt.mp h, Int32.not_le.mp h2⟩)))
  · exact Int32.not_lt.mpr z.1 h
  · exact Int32.not_lt.mpr h2 z.2
/-- an int within 0 .. n is a number below n -/
theorem sd_w {x : Int32} {n : Nat} (hn : n < 2 ^ 31) (h : 0 ≤ x ∧ x < nI n) : ∃ j, j < n ∧ x = nI j := by
  obtain ⟨j, hj, rfl⟩ := nI_of (x := x) (Int32.not_lt.mpr h.1)
  exact ⟨j, (nI_ltI hj hn).mp h.2, rfl⟩
theorem sd_wi {j n : Nat} (h : j < n) (hn : n < 2 ^ 31) : 0 ≤ nI j ∧ nI j < nI n := ⟨nI_pos' (by omega), nI_lt h hn⟩
end
section
/-! the program as it is written: its shape, and what a class finds -/
def sp_cls (nc : Nat) (fc : Nat → Int32) (pa : Nat → Option Nat) (ups : Nat → Int32) : Prop :=
  nc ≤ 10 ∧ (∀ c, c < nc → fc c = 0 ∨ fc c = 1) ∧
  (∀ c p, c < nc → pa c = some p → p < c ∧ fc p = 0 ∧ fc c = 0 ∧ bt (ups c) p = true) ∧
  (∀ c, c < nc → bt (ups c) c = true) ∧
  (∀ c a, c < nc → bt (ups c) a = true → a ≤ c ∧ ∀ b, bt (ups a) b = true → bt (ups c) b = true) ∧
  (∀ c a, c < nc → fc c = 0 → bt (ups c) a = true → fc a = 0 → a = c ∨ ∃ p, pa c = some p ∧ bt (ups p) a = true) ∧
  (∀ c a, c < nc → ¬ fc c = 0 → bt (ups c) a = true → ¬ fc a = 0)
def sp_mth (nc nm : Nat) (fc : Nat → Int32) (hm na ln : Nat → Nat) (br : Nat → Int32) (dc : Nat → Nat → Option Nat) : Prop :=
  nm ≤ 30 ∧ (∀ m, m < nm → hm m < nc ∧ na m < 10 ∧ ln m ≤ 6 ∧ (br m = 0 ∨ br m = 1) ∧ (¬ fc (hm m) = 0 → ¬ br m = 0)) ∧
  (∀ c n m, dc c n = some m ↔ m < nm ∧ hm m = c ∧ na m = n)
def sp_in1 (o c n : Nat) (ic ii fs sc : Int32) : Prop :=
  o < 6 ∧ (o = 0 → ic = -1 ∧ ii = sc) ∧ (o = 5 → ic = -1) ∧ (o ≠ 0 → o ≠ 5 → ic = nI c ∧ fs = nI c ∧ c < 10) ∧ (o = 2 ∨ o = 3 → ii = nI n ∧ sc = nI n ∧ n < 10) ∧ (o = 1 ∨ o = 4 ∨ o = 5 → ii = 0)
def sp_ins (nm : Nat) (ln op cl nn : Nat → Nat) (ic ii fs sc : Nat → Int32) : Prop :=
  ∀ m k, m < nm → k < ln m → sp_in1 (op (6 * m + k)) (cl (6 * m + k)) (nn (6 * m + k)) (ic (6 * m + k)) (ii (6 * m + k)) (fs (6 * m + k)) (sc (6 * m + k))
def sp_rul (nr : Nat) (rk : Nat → Nat) : Prop := nr ≤ 4 ∧ ∀ r, r < nr → rk r < 2
/-- the first of f 0, f 1 .. below n that is something -/
def fsm (f : Nat → Option Nat) : Nat → Option Nat
  | 0 => none
  | k + 1 => match fsm f k with
    | some m => some m
    | none => f k
theorem fsm_n {f : Nat → Option Nat} : ∀ {n : Nat}, (∀ b, b < n → f b = none) → fsm f n = none
  | 0, _ => rfl
  | n + 1, h => by
    have e := fsm_n (f := f) (n := n) (fun b hb => h b (by omega))
    simp only [fsm, e, h n (by omega)]
theorem fsm_s {f : Nat → Option Nat} {a m : Nat} (ha : f a = some m) (hb : ∀ b, b < a → f b = none) : ∀ {n : Nat}, a < n → fsm f n = some m
  | 0, h => by omega
  | n + 1, h => by
    rcases Nat.lt_or_ge a n with z | z
    · have e := fsm_s ha hb (n := n) z
      simp only [fsm, e]
    · have z : a = n := by omega
      subst z
      simp only [fsm, fsm_n hb, ha]
theorem fsm_is {f : Nat → Option Nat} {m : Nat} : ∀ {n : Nat}, fsm f n = some m → ∃ a, a < n ∧ f a = some m ∧ ∀ b, b < a → f b = none
  | 0, h => by cases h
  | n + 1, h => by
    cases e : fsm f n with
    | some k =>
      simp only [fsm, e] at h
      cases h
      obtain ⟨a, h1, h2, h3⟩ := fsm_is e
      exact ⟨a, by omega, h2, h3⟩
    | none =>
      simp only [fsm, e] at h
      refine ⟨n, by omega, h, fun b hb => ?_⟩
      cases eb : f b with
      | none => rfl
      | some k =>
        exfalso
        obtain ⟨a, h1, h2⟩ := pk_least (fun x => ∃ k, f x = some k) ⟨b, k, eb⟩
        obtain ⟨k', h1⟩ := h1
        have ha : a ≤ b := Nat.le_of_not_lt (fun z => h2 b z ⟨k, eb⟩)
        have hn : ∀ x, x < a → f x = none := fun x hx => by
          cases ex : f x with
          | none => rfl
          | some y => exact absurd ⟨y, ex⟩ (h2 x hx)
        rw [fsm_s h1 hn (by omega)] at e
        cases e
theorem fsm_isn {f : Nat → Option Nat} {n : Nat} (h : fsm f n = none) : ∀ b, b < n → f b = none := by
  intro b hb
  cases eb : f b with
  | none => rfl
  | some k =>
    exfalso
    obtain ⟨a, h1, h2⟩ := pk_least (fun x => ∃ k, f x = some k) ⟨b, k, eb⟩
    obtain ⟨k', h1⟩ := h1
    have ha : a ≤ b := Nat.le_of_not_lt (fun z => h2 b z ⟨k, eb⟩)
    have hn : ∀ x, x < a → f x = none := fun x hx => by
      cases ex : f x with
      | none => rfl
      | some y => exact absurd ⟨y, ex⟩ (h2 x hx)
    rw [fsm_s h1 hn (by omega)] at h
    cases h
def sp_or (a b : Option Nat) : Option Nat := match a with
  | some m => some m
  | none => b
theorem sp_ors {m : Nat} {b : Option Nat} : sp_or (some m) b = some m := rfl
theorem sp_orn {b : Option Nat} : sp_or none b = b := rfl
theorem sp_ora (a b c : Option Nat) : sp_or (sp_or a b) c = sp_or a (sp_or b c) := by cases a <;> rfl
/-- what is found, if a class that is no interface has it -/
def sp_nf (fc : Nat → Int32) (hm : Nat → Nat) (o : Option Nat) : Option Nat := match o with
  | some m => if fc (hm m) = 0 then some m else none
  | none => none
def sp_up (pa : Nat → Option Nat) (fc : Nat → Int32) (hm : Nat → Nat) (fd : Nat → Nat → Option Nat) (c n : Nat) : Option Nat := match pa c with
  | some p => sp_nf fc hm (fd p n)
  | none => none
def sp_fr (ups : Nat → Int32) (dc : Nat → Nat → Option Nat) (c n a : Nat) : Option Nat := if bt (ups c) a = true then dc a n else none
def sp_ff (ups : Nat → Int32) (dc : Nat → Nat → Option Nat) (c n : Nat) : Option Nat := fsm (sp_fr ups dc c n) c
def sp_fd (nc : Nat) (pa : Nat → Option Nat) (fc ups : Nat → Int32) (hm : Nat → Nat) (dc fd : Nat → Nat → Option Nat) : Prop :=
  ∀ c n, c < nc → fd c n = sp_or (dc c n) (sp_or (sp_up pa fc hm fd c n) (sp_ff ups dc c n))
theorem sp_fdx {nc : Nat} {pa : Nat → Option Nat} {fc ups : Nat → Int32} {hm : Nat → Nat} {dc : Nat → Nat → Option Nat} (C : sp_cls nc fc pa ups) : ∃ fd, sp_fd nc pa fc ups hm dc fd := by
  obtain ⟨f, hf⟩ := fx (α := Nat × Nat) (V := Option Nat) (fun a => a.1) (fun r a => sp_or (dc a.1 a.2) (sp_or (sp_up pa fc hm (fun p n => r (p, n)) a.1 a.2) (sp_ff ups dc a.1 a.2)))
  refine ⟨fun c n => f (c, n), fun c n hc => ?_⟩
  show f (c, n) = _
  rw [hf (c, n)]
  congr 2
  unfold sp_up
  dsimp only
  cases e : pa c with
  | none => rfl
  | some p =>
    have := (C.2.2.1 c p hc e).1
    dsimp only
    rw [if_pos this]
section
variable {nc nm : Nat} {pa : Nat → Option Nat} {fc ups br : Nat → Int32} {hm na ln : Nat → Nat} {dc fd : Nat → Nat → Option Nat}
theorem sp_frs {c n a m : Nat} (h : sp_fr ups dc c n a = some m) : bt (ups c) a = true ∧ dc a n = some m := by
  unfold sp_fr at h
  split at h
  · exact ⟨by assumption, h⟩
  · cases h
theorem sp_upI {c n m : Nat} (h : sp_up pa fc hm fd c n = some m) : ∃ p, pa c = some p ∧ fd p n = some m ∧ fc (hm m) = 0 := by
  unfold sp_up at h
  cases e : pa c with
  | none => rw [e] at h; cases h
  | some p =>
    rw [e] at h
    dsimp only at h
    refine ⟨p, rfl, ?_⟩
    unfold sp_nf at h
    cases e2 : fd p n with
    | none => rw [e2] at h; cases h
    | some k =>
      rw [e2] at h
      dsimp only at h
      split at h
      · cases h; exact ⟨rfl, by assumption⟩
      · cases h
theorem sp_ffI {c n m : Nat} (h : sp_ff ups dc c n = some m) : ∃ a, a < c ∧ bt (ups c) a = true ∧ dc a n = some m := by
  obtain ⟨a, h1, h2, _⟩ := fsm_is h
  exact ⟨a, h1, sp_frs h2⟩
theorem sp_sound (C : sp_cls nc fc pa ups) (M : sp_mth nc nm fc hm na ln br dc) (F : sp_fd nc pa fc ups hm dc fd) :
    ∀ c n m, c < nc → fd c n = some m → m < nm ∧ na m = n ∧ bt (ups c) (hm m) = true := by
  intro c
  induction c using Nat.strongRecOn with
  | ind c ih =>
    intro n m hc h
    rw [F c n hc] at h
    cases e : dc c n with
    | some k =>
      rw [e] at h; cases h
      obtain ⟨h1, h2, h3⟩ := (M.2.2 c n m).mp e
      exact ⟨h1, h3, by rw [h2]; exact C.2.2.2.1 c hc⟩
    | none =>
      rw [e, sp_orn] at h
      cases e2 : sp_up pa fc hm fd c n with
      | some k =>
        rw [e2] at h; cases h
        obtain ⟨p, h1, h2, h3⟩ := sp_upI e2
        obtain ⟨q1, q2, q3, q4⟩ := C.2.2.1 c p hc h1
        obtain ⟨r1, r2, r3⟩ := ih p q1 n m (by omega) h2
        exact ⟨r1, r2, (C.2.2.2.2.1 c p hc q4).2 _ r3⟩
      | none =>
        rw [e2, sp_orn] at h
        obtain ⟨a, h1, h2, h3⟩ := sp_ffI h
        obtain ⟨r1, r2, r3⟩ := (M.2.2 a n m).mp h3
        exact ⟨r1, r3, by rw [r2]; exact h2⟩
theorem sp_compl (C : sp_cls nc fc pa ups) (F : sp_fd nc pa fc ups hm dc fd) {c a n m : Nat} (hc : c < nc) (hu : bt (ups c) a = true) (hd : dc a n = some m) : ∃ k, fd c n = some k := by
  rw [F c n hc]
  cases e : dc c n with
  | some k => exact ⟨k, rfl⟩
  | none =>
    rw [sp_orn]
    cases e2 : sp_up pa fc hm fd c n with
    | some k => exact ⟨k, rfl⟩
    | none =>
      rw [sp_orn]
      cases e3 : sp_ff ups dc c n with
      | some k => exact ⟨k, rfl⟩
      | none =>
        exfalso
        have h1 := (C.2.2.2.2.1 c a hc hu).1
        have h2 : a ≠ c := fun z => by rw [z, e] at hd; cases hd
        have := fsm_isn e3 a (by omega)
        unfold sp_fr at this
        rw [if_pos hu, hd] at this
        cases this
/-- below a class that finds something, everything finds something -/
theorem sp_below (C : sp_cls nc fc pa ups) (M : sp_mth nc nm fc hm na ln br dc) (F : sp_fd nc pa fc ups hm dc fd) {c d n m : Nat} (hd : d < nc) (hu : bt (ups d) c = true) (h : fd c n = some m) : ∃ k, fd d n = some k := by
  have h0 := C.2.2.2.2.1 d c hd hu
  obtain ⟨h1, h2, h3⟩ := sp_sound C M F c n m (by omega) h
  exact sp_compl C F hd (h0.2 _ h3) ((M.2.2 (hm m) n m).mpr ⟨h1, rfl, h2⟩)
theorem sp_nonf (C : sp_cls nc fc pa ups) (M : sp_mth nc nm fc hm na ln br dc) (F : sp_fd nc pa fc ups hm dc fd) :
    ∀ c a n m, c < nc → fc c = 0 → bt (ups c) a = true → fc a = 0 → dc a n = some m → ∃ k, fd c n = some k ∧ fc (hm k) = 0 := by
  intro c
  induction c using Nat.strongRecOn with
  | ind c ih =>
    intro a n m hc h0 hu ha hd
    rw [F c n hc]
    cases e : dc c n with
    | some k =>
      refine ⟨k, rfl, ?_⟩
      rw [((M.2.2 c n k).mp e).2.1]; exact h0
    | none =>
      rw [sp_orn]
      rcases C.2.2.2.2.2.1 c a hc h0 hu ha with z | ⟨p, h1, h2⟩
      · rw [z, e] at hd; cases hd
      · obtain ⟨q1, q2, q3, q4⟩ := C.2.2.1 c p hc h1
        obtain ⟨k, r1, r2⟩ := ih p q1 a n m (by omega) q2 h2 ha hd
        refine ⟨k, ?_, r2⟩
        have : sp_up pa fc hm fd c n = some k := by
          unfold sp_up sp_nf
          rw [h1]; dsimp only; rw [r1]; dsimp only; rw [if_pos r2]
        rw [this]; rfl
/-- a class finds in itself and the classes above it, the interfaces aside -/
theorem sp_chain (C : sp_cls nc fc pa ups) (M : sp_mth nc nm fc hm na ln br dc) (F : sp_fd nc pa fc ups hm dc fd) {c n : Nat} (hc : c < nc) (h0 : fc c = 0) : sp_nf fc hm (fd c n) = sp_or (dc c n) (sp_up pa fc hm fd c n) := by
  cases e : dc c n with
  | some k =>
    rw [F c n hc, e, sp_ors, sp_ors]
    unfold sp_nf
    dsimp only
    rw [if_pos]
    rw [((M.2.2 c n k).mp e).2.1]; exact h0
  | none =>
    rw [sp_orn]
    cases e2 : sp_up pa fc hm fd c n with
    | some k =>
      rw [F c n hc, e, sp_orn, e2, sp_ors]
      obtain ⟨p, h1, h2, h3⟩ := sp_upI e2
      unfold sp_nf
      dsimp only
      rw [if_pos h3]
    | none =>
      rw [F c n hc, e, sp_orn, e2, sp_orn]
      cases e3 : sp_ff ups dc c n with
      | none => rfl
      | some k =>
        unfold sp_nf
        dsimp only
        obtain ⟨a, h1, h2, h3⟩ := sp_ffI e3
        have ha : hm k = a := ((M.2.2 a n k).mp h3).2.1
        rw [if_neg]
        intro hz
        rw [ha] at hz
        rcases C.2.2.2.2.2.1 c a hc h0 h2 hz with z | ⟨p, g1, g2⟩
        · omega
        · obtain ⟨q1, q2, q3, q4⟩ := C.2.2.1 c p hc g1
          obtain ⟨j, r1, r2⟩ := sp_nonf C M F p a n k (by omega) q2 g2 hz h3
          have : sp_up pa fc hm fd c n = some j := by
            unfold sp_up sp_nf
            rw [g1]; dsimp only; rw [r1]; dsimp only; rw [if_pos r2]
          rw [this] at e2; cases e2
theorem sp_up_s (C : sp_cls nc fc pa ups) (M : sp_mth nc nm fc hm na ln br dc) (F : sp_fd nc pa fc ups hm dc fd) {c p n : Nat} (hc : c < nc) (h : pa c = some p) : sp_up pa fc hm fd c n = sp_or (dc p n) (sp_up pa fc hm fd p n) := by
  obtain ⟨q1, q2, q3, q4⟩ := C.2.2.1 c p hc h
  rw [← sp_chain C M F (by omega) q2]
  show (match pa c with | some p => sp_nf fc hm (fd p n) | none => none) = _
  rw [h]
theorem sp_up_n {c n : Nat} (h : pa c = none) : sp_up pa fc hm fd c n = none := by unfold sp_up; rw [h]
end
end
section
/-! what is declared and found: the reference's searches, the component's tables -/
section
variable {nc nm nr : Nat} {pa : Nat → Option Nat} {hm na ln op rk cl nn : Nat → Nat} {fc ups br ic ii fs sc rc rn : Nat → Int32} {dc fd : Nat → Nat → Option Nat}
variable {xnd xmd xnh xlv xq xs xbt xft xdp xst xss xpt xtr xsm : Int32} {xfs xdc xfd xqu xwt xsi xtg xnw xfa xsg xnn xtk xrl bop bcl bin bsk bme bli bou xnf xfm xfl xfh xou xem xel : Nat → Int32}
variable {ypl ynd ymd ynh ylv ybt ydp yst yot yen : Int32} {yow yma yil ynu ynn yfa yvm yvl yvh ypu : Nat → Int32}
theorem sp_dcn {c n : Nat} (M : sp_mth nc nm fc hm na ln br dc) (h : ∀ m, m < nm → ¬ (hm m = c ∧ na m = n)) : dc c n = none := by
  cases e : dc c n with
  | none => rfl
  | some m =>
    obtain ⟨h1, h2, h3⟩ := (M.2.2 c n m).mp e
    exact absurd ⟨h2, h3⟩ (h m h1)
theorem sy_declared2 {post : Int32 → Prop} {c n : Nat} (M : sp_mth nc nm fc hm na ln br dc) (C : nc ≤ 10) (hc : c < 2 ^ 31) (hn : n < 2 ^ 31) (hp : post (oI (dc c n))) :
    ∀ fuel i, i ≤ nm → nm - i < fuel → (∀ m, m < i → ¬ (hm m = c ∧ na m = n)) → wY_declared_2 post (nI c) (nI n) (nI nc) (nI nm) (nI nr) ypl ynd ymd ynh ylv ybt ydp yst yot yen fc br (oF pa) ups yow yma (nF hm) (nF na) (nF ln) (nF op) fs sc (nF rk) rc rn yil ynu ynn yfa yvm yvl yvh ypu fuel (nI i) := by
  intro fuel
  induction fuel with
  | zero => intro i _ h; omega
  | succ f ih =>
    intro i hi hf hno
    have h30 := M.1
    rw [wY_declared_2]
    refine pk_le nm i (fun h => ?_) (fun h => ?_)
    · rw [sp_dcn M (fun m hm' => hno m (by omega))] at hp
      exact hp
    · have hb := M.2.1 i h
      have hv : vp_in (nI i) 30 := vp_in_nI (by omega) (by decide)
      rw [nI_clamp (by omega), nF_a, nF_a]
      have hnext : ¬ (hm i = c ∧ na i = n) → ∀ y, y = nI i + 1 → wY_declared_2 post (nI c) (nI n) (nI nc) (nI nm) (nI nr) ypl ynd ymd ynh ylv ybt ydp yst yot yen fc br (oF pa) ups yow yma (nF hm) (nF na) (nF ln) (nF op) fs sc (nF rk) rc rn yil ynu ynn yfa yvm yvl yvh ypu f y := fun hne =>
        nm_r (nI_1 i) (ih (i + 1) (by omega) (by omega) (lt_s hno hne))
      refine ⟨hv, pk_eq (hm i) c (fun e1 => ⟨hv, pk_eq (na i) n (fun e2 => ?_) (fun e2 => hnext (fun z => e2 z.2))⟩) (fun e1 => hnext (fun z => e1 z.1))⟩
      rw [(M.2.2 c n i).mpr ⟨h, e1, e2⟩] at hp
      exact hp
theorem sy_declared {post : Int32 → Prop} {c n : Nat} (M : sp_mth nc nm fc hm na ln br dc) (C : nc ≤ 10) (hc : c < 2 ^ 31) (hn : n < 2 ^ 31) (hp : post (oI (dc c n))) : wpY_declared post ((nI nc), (nI nm), (nI nr), ypl, ynd, ymd, ynh, ylv, ybt, ydp, yst, yot, yen, fc, br, (oF pa), ups, yow, yma, (nF hm), (nF na), (nF ln), (nF op), fs, sc, (nF rk), rc, rn, yil, ynu, ynn, yfa, yvm, yvl, yvh, ypu) (nI c) (nI n) :=
  ⟨nm + 1, sy_declared2 M C hc hn hp (nm + 1) 0 (by omega) (by omega) (fun m h => by omega)⟩
theorem sy_declaredN2 {post : Int32 → Prop} {x1 x : Int32} (M : sp_mth nc nm fc hm na ln br dc) (C : nc ≤ 10) (hx : ∀ m, m < nm → ¬ nI (na m) = x) (hp : post (-1)) :
    ∀ fuel i, i ≤ nm → nm - i < fuel → wY_declared_2 post x1 x (nI nc) (nI nm) (nI nr) ypl ynd ymd ynh ylv ybt ydp yst yot yen fc br (oF pa) ups yow yma (nF hm) (nF na) (nF ln) (nF op) fs sc (nF rk) rc rn yil ynu ynn yfa yvm yvl yvh ypu fuel (nI i) := by
  intro fuel
  induction fuel with
  | zero => intro i _ h; omega
  | succ f ih =>
    intro i hi hf
    have h30 := M.1
    rw [wY_declared_2]
    refine pk_le nm i (fun h => hp) (fun h => ?_)
    have hv : vp_in (nI i) 30 := vp_in_nI (by omega) (by decide)
    have hnext : ∀ y, y = nI i + 1 → wY_declared_2 post x1 x (nI nc) (nI nm) (nI nr) ypl ynd ymd ynh ylv ybt ydp yst yot yen fc br (oF pa) ups yow yma (nF hm) (nF na) (nF ln) (nF op) fs sc (nF rk) rc rn yil ynu ynn yfa yvm yvl yvh ypu f y := nm_r (nI_1 i) (ih (i + 1) (by omega) (by omega))
    rw [nI_clamp (by omega), nF_a, nF_a]
    exact ⟨hv, br_c (fun _ => ⟨hv, br_f (hx i h) hnext⟩) (fun _ => hnext)⟩
theorem sy_declaredN {post : Int32 → Prop} {x1 x : Int32} (M : sp_mth nc nm fc hm na ln br dc) (C : nc ≤ 10) (hx : ∀ m, m < nm → ¬ nI (na m) = x) (hp : post (-1)) : wpY_declared post ((nI nc), (nI nm), (nI nr), ypl, ynd, ymd, ynh, ylv, ybt, ydp, yst, yot, yen, fc, br, (oF pa), ups, yow, yma, (nF hm), (nF na), (nF ln), (nF op), fs, sc, (nF rk), rc, rn, yil, ynu, ynn, yfa, yvm, yvl, yvh, ypu) x1 x :=
  ⟨nm + 1, sy_declaredN2 M C hx hp (nm + 1) 0 (by omega) (by omega)⟩
theorem fsm_ext {f : Nat → Option Nat} {a : Nat} : ∀ k, (∀ b, a ≤ b → b < a + k → f b = none) → fsm f (a + k) = fsm f a
  | 0, _ => rfl
  | k + 1, h => by
    have e := fsm_ext (f := f) (a := a) k (fun b h1 h2 => h b h1 (by omega))
    have e2 := h (a + k) (by omega) (by omega)
    show (match fsm f (a + k) with | some m => some m | none => f (a + k)) = _
    rw [e, e2]
    cases fsm f a <;> rfl
theorem sp_ffn {c n : Nat} (C : sp_cls nc fc pa ups) (hc : c < nc) (h : dc c n = none) : fsm (sp_fr ups dc c n) nc = sp_ff ups dc c n := by
  obtain ⟨k, rfl⟩ : ∃ k, nc = c + k := ⟨nc - c, by omega⟩
  refine fsm_ext k (fun b h1 h2 => ?_)
  unfold sp_fr
  split
  · rename_i hb
    have := (C.2.2.2.2.1 c b hc hb).1
    have : b = c := by omega
    rw [this]; exact h
  · rfl
theorem sy_finds65n {post : Int32 → Prop} {J34 : Int32 → Prop} {x1 x2 : Int32} {i : Nat} (h : J34 (nI (i + 1))) : wY_finds_65 post J34 x1 x2 (nI i) (-1) (nI nc) (nI nm) (nI nr) ypl ynd ymd ynh ylv ybt ydp yst yot yen fc br (oF pa) ups yow yma (nF hm) (nF na) (nF ln) (nF op) fs sc (nF rk) rc rn yil ynu ynn yfa yvm yvl yvh ypu :=
  br_t (by decide) (nm_r (nI_1 i) h)
theorem sy_finds34 {post : Int32 → Prop} {c n : Nat} (C : sp_cls nc fc pa ups) (M : sp_mth nc nm fc hm na ln br dc) (hc : c < nc) (hn : n < 10) (hp : post (oI (fsm (sp_fr ups dc c n) nc))) :
    ∀ fuel i, i ≤ nc → nc - i < fuel → (∀ b, b < i → sp_fr ups dc c n b = none) → wY_finds_34 post (nI c) (nI n) (nI nc) (nI nm) (nI nr) ypl ynd ymd ynh ylv ybt ydp yst yot yen fc br (oF pa) ups yow yma (nF hm) (nF na) (nF ln) (nF op) fs sc (nF rk) rc rn yil ynu ynn yfa yvm yvl yvh ypu fuel (nI i) := by
  intro fuel
  induction fuel with
  | zero => intro i _ h; omega
  | succ f ih =>
    intro i hi hf hno
    have h10 := C.1
    rw [wY_finds_34]
    refine pk_le nc i (fun h => ?_) (fun h => ⟨vp_in_nI (by omega) (by decide), ?_⟩)
    · rw [fsm_n (fun b hb => hno b (by omega))] at hp
      exact hp
    · rw [nI_clamp (by omega)]
      have hnext : sp_fr ups dc c n i = none → wY_finds_34 post (nI c) (nI n) (nI nc) (nI nm) (nI nr) ypl ynd ymd ynh ylv ybt ydp yst yot yen fc br (oF pa) ups yow yma (nF hm) (nF na) (nF ln) (nF op) fs sc (nF rk) rc rn yil ynu ynn yfa yvm yvl yvh ypu f (nI (i + 1)) := fun hne =>
        ih (i + 1) (by omega) (by omega) (lt_s hno hne)
      refine yh_b (by omega) (fun hb => ?_) (fun hb => ?_)
      · refine sy_finds65n (hnext ?_)
        unfold sp_fr; rw [if_neg (by rw [hb]; decide)]
      · have e : sp_fr ups dc c n i = dc i n := if_pos hb
        refine sy_declared M h10 (by omega) (by omega) ?_
        cases ed : dc i n with
        | none => exact sy_finds65n (hnext (by rw [e, ed]))
        | some m =>
          rw [fsm_s (e.trans ed) hno (by omega)] at hp
          have := ((M.2.2 i n m).mp ed).1
          have := M.1
          exact br_f (nI_pos (by omega)) hp
theorem sy_finds2 {post : Int32 → Prop} {c n : Nat} (C : sp_cls nc fc pa ups) (M : sp_mth nc nm fc hm na ln br dc) (F : sp_fd nc pa fc ups hm dc fd) (hc : c < nc) (hn : n < 10) (hp : post (oI (fd c n))) :
    ∀ fuel d, d < nc → d + 1 < fuel → (d = c ∨ dc c n = none) → fd c n = sp_or (dc d n) (sp_or (sp_up pa fc hm fd d n) (sp_ff ups dc c n)) → wY_finds_2 post (nI c) (nI n) (nI nc) (nI nm) (nI nr) ypl ynd ymd ynh ylv ybt ydp yst yot yen fc br (oF pa) ups yow yma (nF hm) (nF na) (nF ln) (nF op) fs sc (nF rk) rc rn yil ynu ynn yfa yvm yvl yvh ypu fuel (nI d) := by
  intro fuel
  induction fuel with
  | zero => intro d _ h; omega
  | succ f ih =>
    intro d hd hf hdc hI
    have h10 := C.1
    have h30 := M.1
    rw [wY_finds_2]
    refine br_f (nI_pos (by omega)) (sy_declared M h10 (by omega) (by omega) ?_)
    cases ed : dc d n with
    | some m =>
      rw [hI, ed, sp_ors] at hp
      have := ((M.2.2 d n m).mp ed).1
      exact br_f (nI_pos (by omega)) hp
    | none =>
      have hcn : dc c n = none := hdc.elim (fun z => by rw [← z]; exact ed) id
      refine br_t (by decide) ⟨vp_in_nI (by omega) (by decide), nm_r (e' := oI (pa d)) (by rw [nI_clamp (by omega)]; rfl) ?_⟩
      cases ep : pa d with
      | none =>
        obtain ⟨f', rfl⟩ : ∃ f', f = f' + 1 := ⟨f - 1, by omega⟩
        rw [oI_n, wY_finds_2]
        dsimp only
        refine br_t (by decide) ⟨nc + 1, ?_⟩
        rw [← nI_0]
        refine sy_finds34 C M hc hn ?_ (nc + 1) 0 (by omega) (by omega) (fun b h => by omega)
        rw [sp_ffn C hc hcn]
        rw [hI, ed, sp_orn, sp_up_n ep, sp_orn] at hp
        exact hp
      | some p =>
        obtain ⟨q1, q2, q3, q4⟩ := C.2.2.1 d p hd ep
        refine ih p (by omega) (by omega) (Or.inr hcn) ?_
        rw [hI, ed, sp_orn, sp_up_s C M F hd ep, sp_ora]
theorem sy_finds {post : Int32 → Prop} {c n : Nat} (C : sp_cls nc fc pa ups) (M : sp_mth nc nm fc hm na ln br dc) (F : sp_fd nc pa fc ups hm dc fd) (hc : c < nc) (hn : n < 10) (hp : post (oI (fd c n))) : wpY_finds post ((nI nc), (nI nm), (nI nr), ypl, ynd, ymd, ynh, ylv, ybt, ydp, yst, yot, yen, fc, br, (oF pa), ups, yow, yma, (nF hm), (nF na), (nF ln), (nF op), fs, sc, (nF rk), rc, rn, yil, ynu, ynn, yfa, yvm, yvl, yvh, ypu) (nI c) (nI n) :=
  ⟨c + 2, sy_finds2 C M F hc hn hp (c + 2) c hc (by omega) (Or.inl rfl) (F c n hc)⟩
/-- of a name that no method has nothing is found -/
theorem sy_finds34N {post : Int32 → Prop} {c : Nat} {x : Int32} (C : sp_cls nc fc pa ups) (M : sp_mth nc nm fc hm na ln br dc) (hc : c < nc) (hx : ∀ m, m < nm → ¬ nI (na m) = x) (hp : post (-1)) :
    ∀ fuel i, i ≤ nc → nc - i < fuel → wY_finds_34 post (nI c) x (nI nc) (nI nm) (nI nr) ypl ynd ymd ynh ylv ybt ydp yst yot yen fc br (oF pa) ups yow yma (nF hm) (nF na) (nF ln) (nF op) fs sc (nF rk) rc rn yil ynu ynn yfa yvm yvl yvh ypu fuel (nI i) := by
  intro fuel
  induction fuel with
  | zero => intro i _ h; omega
  | succ f ih =>
    intro i hi hf
    have h10 := C.1
    rw [wY_finds_34]
    refine pk_le nc i (fun h => hp) (fun h => ⟨vp_in_nI (by omega) (by decide), ?_⟩)
    rw [nI_clamp (by omega)]
    exact yh_b (by omega) (fun _ => sy_finds65n (ih (i + 1) (by omega) (by omega))) (fun _ => sy_declaredN M h10 hx (sy_finds65n (ih (i + 1) (by omega) (by omega))))
theorem sy_finds2N {post : Int32 → Prop} {c : Nat} {x : Int32} (C : sp_cls nc fc pa ups) (M : sp_mth nc nm fc hm na ln br dc) (hc : c < nc) (hx : ∀ m, m < nm → ¬ nI (na m) = x) (hp : post (-1)) :
    ∀ fuel d, d < nc → d + 1 < fuel → wY_finds_2 post (nI c) x (nI nc) (nI nm) (nI nr) ypl ynd ymd ynh ylv ybt ydp yst yot yen fc br (oF pa) ups yow yma (nF hm) (nF na) (nF ln) (nF op) fs sc (nF rk) rc rn yil ynu ynn yfa yvm yvl yvh ypu fuel (nI d) := by
  intro fuel
  induction fuel with
  | zero => intro d _ h; omega
  | succ f ih =>
    intro d hd hf
    have h10 := C.1
    rw [wY_finds_2]
    refine br_f (nI_pos (by omega)) (sy_declaredN M h10 hx (br_t (by decide) ⟨vp_in_nI (by omega) (by decide), nm_r (e' := oI (pa d)) (by rw [nI_clamp (by omega)]; rfl) ?_⟩))
    cases ep : pa d with
    | none =>
      obtain ⟨f', rfl⟩ : ∃ f', f = f' + 1 := ⟨f - 1, by omega⟩
      rw [oI_n, wY_finds_2]
      dsimp only
      refine br_t (by decide) ⟨nc + 1, ?_⟩
      rw [← nI_0]
      exact sy_finds34N C M hc hx hp (nc + 1) 0 (by omega) (by omega)
    | some p =>
      have := (C.2.2.1 d p hd ep).1
      exact ih p (by omega) (by omega)
theorem sy_findsN {post : Int32 → Prop} {c : Nat} {x : Int32} (C : sp_cls nc fc pa ups) (M : sp_mth nc nm fc hm na ln br dc) (hc : c < nc) (hx : ∀ m, m < nm → ¬ nI (na m) = x) (hp : post (-1)) : wpY_finds post ((nI nc), (nI nm), (nI nr), ypl, ynd, ymd, ynh, ylv, ybt, ydp, yst, yot, yen, fc, br, (oF pa), ups, yow, yma, (nF hm), (nF na), (nF ln), (nF op), fs, sc, (nF rk), rc, rn, yil, ynu, ynn, yfa, yvm, yvl, yvh, ypu) (nI c) x :=
  ⟨c + 2, sy_finds2N C M hc hx hp (c + 2) c hc (by omega)⟩
/-! the component -/
theorem sx_fromFaces2 {post : Int32 → Prop} {c n : Nat} (C : sp_cls nc fc pa ups) (M : sp_mth nc nm fc hm na ln br dc) (D : ∀ c n, c < nc → n < 10 → xdc (10 * c + n) = oI (dc c n)) (hc : c < nc) (hn : n < 10) (hp : post (oI (sp_ff ups dc c n))) :
    ∀ fuel i, i ≤ c → c - i < fuel → (∀ b, b < i → sp_fr ups dc c n b = none) → wX_fromFaces_2 post (nI c) (nI n) (nI nc) (nI nm) (nI nr) xnd xmd xnh xlv xq xs xbt xft xdp xst xss xpt xtr xsm fc (oF pa) xfs ups (nF hm) (nF na) br (nF ln) (nF op) ic ii xdc xfd (nF rk) rc rn xqu xwt xsi xtg xnw xfa xsg xnn xtk xrl bop bcl bin bsk bme bli bou xnf xfm xfl xfh xou xem xel fuel (nI i) := by
  intro fuel
  induction fuel with
  | zero => intro i _ h; omega
  | succ f ih =>
    intro i hi hf hno
    have h10 := C.1
    have h30 := M.1
    rw [wX_fromFaces_2]
    refine pk_le c i (fun h => ?_) (fun h => ⟨vp_in_nI (by omega) (by decide), ?_⟩)
    · unfold sp_ff at hp
      rw [fsm_n (fun b hb => hno b (by omega))] at hp
      exact hp
    · rw [nI_clamp (by omega), sd_x10, nI_add, nI_clamp (by omega), D i n (by omega) hn]
      have hv : vp_in (nI (10 * i + n)) 100 := vp_in_nI (by omega) (by decide)
      have hnext : sp_fr ups dc c n i = none → ∀ y, y = nI i + 1 → wX_fromFaces_2 post (nI c) (nI n) (nI nc) (nI nm) (nI nr) xnd xmd xnh xlv xq xs xbt xft xdp xst xss xpt xtr xsm fc (oF pa) xfs ups (nF hm) (nF na) br (nF ln) (nF op) ic ii xdc xfd (nF rk) rc rn xqu xwt xsi xtg xnw xfa xsg xnn xtk xrl bop bcl bin bsk bme bli bou xnf xfm xfl xfh xou xem xel f y := fun hne =>
        nm_r (nI_1 i) (ih (i + 1) (by omega) (by omega) (lt_s hno hne))
      refine xh_b (by omega) (fun hb => ?_) (fun hb => ?_)
      · refine hnext ?_
        unfold sp_fr; rw [if_neg (by rw [hb]; decide)]
      · have e : sp_fr ups dc c n i = dc i n := if_pos hb
        refine ⟨hv, ?_⟩
        cases ed : dc i n with
        | none => exact br_t (by decide) (hnext (by rw [e, ed]))
        | some m =>
          unfold sp_ff at hp
          rw [fsm_s (e.trans ed) hno (by omega)] at hp
          have := ((M.2.2 i n m).mp ed).1
          exact br_f (nI_pos (by omega)) ⟨hv, hp⟩
theorem sx_fromFaces {post : Int32 → Prop} {c n : Nat} (C : sp_cls nc fc pa ups) (M : sp_mth nc nm fc hm na ln br dc) (D : ∀ c n, c < nc → n < 10 → xdc (10 * c + n) = oI (dc c n)) (hc : c < nc) (hn : n < 10) (hp : post (oI (sp_ff ups dc c n))) : wpX_fromFaces post ((nI nc), (nI nm), (nI nr), xnd, xmd, xnh, xlv, xq, xs, xbt, xft, xdp, xst, xss, xpt, xtr, xsm, fc, (oF pa), xfs, ups, (nF hm), (nF na), br, (nF ln), (nF op), ic, ii, xdc, xfd, (nF rk), rc, rn, xqu, xwt, xsi, xtg, xnw, xfa, xsg, xnn, xtk, xrl, bop, bcl, bin, bsk, bme, bli, bou, xnf, xfm, xfl, xfh, xou, xem, xel) (nI c) (nI n) :=
  ⟨c + 1, sx_fromFaces2 C M D hc hn hp (c + 1) 0 (by omega) (by omega) (fun b h => by omega)⟩
theorem sx_table100 {post : SX → Prop} {J2 J12 : Int32 → (Nat → Int32) → (Nat → Int32) → (Nat → Int32) → (Nat → Int32) → (Nat → Int32) → (Nat → Int32) → (Nat → Int32) → (Nat → Int32) → (Nat → Int32) → (Nat → Int32) → (Nat → Int32) → (Nat → Int32) → (Nat → Int32) → (Nat → Int32) → (Nat → Int32) → (Nat → Int32) → (Nat → Int32) → (Nat → Int32) → (Nat → Int32) → (Nat → Int32) → (Nat → Int32) → (Nat → Int32) → (Nat → Int32) → (Nat → Int32) → (Nat → Int32) → (Nat → Int32) → (Nat → Int32) → (Nat → Int32) → (Nat → Int32) → (Nat → Int32) → (Nat → Int32) → (Nat → Int32) → (Nat → Int32) → (Nat → Int32) → (Nat → Int32) → (Nat → Int32) → (Nat → Int32) → (Nat → Int32) → (Nat → Int32) → (Nat → Int32) → Prop} {c n : Nat} {o : Option Nat} (C : sp_cls nc fc pa ups) (M : sp_mth nc nm fc hm na ln br dc) (D : ∀ c n, c < nc → n < 10 → xdc (10 * c + n) = oI (dc c n)) (hc : c < nc) (hn : n < 10)
    (ho : ∀ m, o = some m → m < 128) (h : J12 (nI (n + 1)) fc (oF pa) xfs ups (nF hm) (nF na) br (nF ln) (nF op) ic ii xdc (upd xfd (10 * c + n) (oI (sp_or o (sp_ff ups dc c n)))) (nF rk) rc rn xqu xwt xsi xtg xnw xfa xsg xnn xtk xrl bop bcl bin bsk bme bli bou xnf xfm xfl xfh xou xem xel) : wX_table_100 post J2 J12 (nI c) (nI n) (oI o) (nI nc) (nI nm) (nI nr) xnd xmd xnh xlv xq xs xbt xft xdp xst xss xpt xtr xsm fc (oF pa) xfs ups (nF hm) (nF na) br (nF ln) (nF op) ic ii xdc xfd (nF rk) rc rn xqu xwt xsi xtg xnw xfa xsg xnn xtk xrl bop bcl bin bsk bme bli bou xnf xfm xfl xfh xou xem xel := by
  have h10 := C.1
  have h30 := M.1
  unfold wX_table_100
  rw [sd_x10, nI_add, nI_clamp (by omega)]
  have hv : vp_in (nI (10 * c + n)) 100 := vp_in_nI (by omega) (by decide)
  cases o with
  | some m =>
    refine br_t (nI_pos' (by have := ho m rfl; omega)) ⟨hv, nm_r (e' := upd xfd (10 * c + n) (nI m)) ?_ (nm_r (nI_1 n) h)⟩
    rw [oI_s, sd_vbb (ho m rfl)]
  | none =>
    refine br_f (by decide) (sx_fromFaces C M D hc hn ⟨hv, nm_r (e' := upd xfd (10 * c + n) (oI (sp_ff ups dc c n))) ?_ (nm_r (nI_1 n) h)⟩)
    rw [sd_voo]
    intro m e
    obtain ⟨a, _, _, h3⟩ := sp_ffI e
    have := ((M.2.2 a n m).mp h3).1
    omega
end
end
section
/-! the component's table of what is found -/
section
variable {nc nm nr : Nat} {pa : Nat → Option Nat} {hm na ln op rk cl nn : Nat → Nat} {fc ups br ic ii fs sc rc rn : Nat → Int32} {dc fd : Nat → Nat → Option Nat}
variable {xnd xmd xnh xlv xq xs xbt xft xdp xst xss xpt xtr xsm : Int32} {xfs xdc xfd xqu xwt xsi xtg xnw xfa xsg xnn xtk xrl bop bcl bin bsk bme bli bou xnf xfm xfl xfh xou xem xel : Nat → Int32}
variable {ypl ynd ymd ynh ylv ybt ydp yst yot yen : Int32} {yow yma yil ynu ynn yfa yvm yvl yvh ypu : Nat → Int32}
theorem sx_table12 {post : SX → Prop} {J2 : Int32 → (Nat → Int32) → (Nat → Int32) → (Nat → Int32) → (Nat → Int32) → (Nat → Int32) → (Nat → Int32) → (Nat → Int32) → (Nat → Int32) → (Nat → Int32) → (Nat → Int32) → (Nat → Int32) → (Nat → Int32) → (Nat → Int32) → (Nat → Int32) → (Nat → Int32) → (Nat → Int32) → (Nat → Int32) → (Nat → Int32) → (Nat → Int32) → (Nat → Int32) → (Nat → Int32) → (Nat → Int32) → (Nat → Int32) → (Nat → Int32) → (Nat → Int32) → (Nat → Int32) → (Nat → Int32) → (Nat → Int32) → (Nat → Int32) → (Nat → Int32) → (Nat → Int32) → (Nat → Int32) → (Nat → Int32) → (Nat → Int32) → (Nat → Int32) → (Nat → Int32) → (Nat → Int32) → (Nat → Int32) → (Nat → Int32) → (Nat → Int32) → Prop} {c : Nat} (C : sp_cls nc fc pa ups) (M : sp_mth nc nm fc hm na ln br dc) (F : sp_fd nc pa fc ups hm dc fd) (D : ∀ c n, c < nc → n < 10 → xdc (10 * c + n) = oI (dc c n)) (hc : c < nc)
    (K : ∀ xfd : Nat → Int32, (∀ a b, a < c + 1 → b < 10 → xfd (10 * a + b) = oI (fd a b)) → J2 (nI (c + 1)) fc (oF pa) xfs ups (nF hm) (nF na) br (nF ln) (nF op) ic ii xdc xfd (nF rk) rc rn xqu xwt xsi xtg xnw xfa xsg xnn xtk xrl bop bcl bin bsk bme bli bou xnf xfm xfl xfh xou xem xel) :
    ∀ fuel n (xfd : Nat → Int32), n ≤ 10 → 10 - n < fuel → (∀ a b, a < c → b < 10 → xfd (10 * a + b) = oI (fd a b)) → (∀ b, b < n → xfd (10 * c + b) = oI (fd c b)) → wX_table_12 post J2 (nI c) (nI nc) (nI nm) (nI nr) xnd xmd xnh xlv xq xs xbt xft xdp xst xss xpt xtr xsm fuel (nI n) fc (oF pa) xfs ups (nF hm) (nF na) br (nF ln) (nF op) ic ii xdc xfd (nF rk) rc rn xqu xwt xsi xtg xnw xfa xsg xnn xtk xrl bop bcl bin bsk bme bli bou xnf xfm xfl xfh xou xem xel := by
  intro fuel
  induction fuel with
  | zero => intro n _ _ h; omega
  | succ f ih =>
    intro n xfd hn hf h1 h2
    have h10 := C.1
    have h30 := M.1
    rw [wX_table_12]
    refine pk_le 10 n (fun h => nm_r (nI_1 c) (K xfd fun a b ha hb => ?_)) (fun h => ?_)
    · rcases Nat.lt_or_ge a c with z | z
      · exact h1 a b z hb
      · have z : a = c := by omega
        subst z; exact h2 b (by omega)
    · have hv : vp_in (nI (10 * c + n)) 100 := vp_in_nI (by omega) (by decide)
      have hvc : vp_in (nI c) 10 := vp_in_nI (by omega) (by decide)
      have hF := F c n hc
      have hnext : ∀ v, fd c n = v → wX_table_12 post J2 (nI c) (nI nc) (nI nm) (nI nr) xnd xmd xnh xlv xq xs xbt xft xdp xst xss xpt xtr xsm f (nI (n + 1)) fc (oF pa) xfs ups (nF hm) (nF na) br (nF ln) (nF op) ic ii xdc (upd xfd (10 * c + n) (oI v)) (nF rk) rc rn xqu xwt xsi xtg xnw xfa xsg xnn xtk xrl bop bcl bin bsk bme bli bou xnf xfm xfl xfh xou xem xel := by
        intro v ev
        refine ih (n + 1) _ (by omega) (by omega) (fun a b ha hb => ?_) (fun b hb => ?_)
        · rw [pk_un (by omega)]; exact h1 a b ha hb
        · by_cases z : b = n
          · subst z; rw [pk_us, ev]
          · rw [pk_un (by omega)]; exact h2 b (by omega)
      have hgo : ∀ o, fd c n = sp_or o (sp_ff ups dc c n) → (∀ m, o = some m → m < 128) → wX_table_100 post J2 (wX_table_12 post J2 (nI c) (nI nc) (nI nm) (nI nr) xnd xmd xnh xlv xq xs xbt xft xdp xst xss xpt xtr xsm f) (nI c) (nI n) (oI o) (nI nc) (nI nm) (nI nr) xnd xmd xnh xlv xq xs xbt xft xdp xst xss xpt xtr xsm fc (oF pa) xfs ups (nF hm) (nF na) br (nF ln) (nF op) ic ii xdc xfd (nF rk) rc rn xqu xwt xsi xtg xnw xfa xsg xnn xtk xrl bop bcl bin bsk bme bli bou xnf xfm xfl xfh xou xem xel := fun o e ho =>
        sx_table100 C M D hc h ho (hnext _ e)
      have hn128 : ∀ m, (none : Option Nat) = some m → m < 128 := fun m e => by cases e
      rw [sd_x10, nI_add, nI_clamp (by omega), nI_clamp (by omega)]
      refine ⟨hv, nm_r (D c n hc h) ⟨hvc, nm_r (oF_a pa c) ?_⟩⟩
      cases ed : dc c n with
      | some m =>
        have := ((M.2.2 c n m).mp ed).1
        exact br_t (nI_pos' (by omega)) (hgo (some m) (by rw [hF, ed]; rfl) (fun k e => by cases e; omega))
      | none =>
        rw [ed, sp_orn] at hF
        refine br_f (by decide) ?_
        cases ep : pa c with
        | none =>
          rw [sp_up_n ep, sp_orn] at hF
          exact br_t (by decide) (hgo none hF hn128)
        | some p =>
          obtain ⟨q1, q2, q3, q4⟩ := C.2.2.1 c p hc ep
          have hvp : vp_in (nI (10 * p + n)) 100 := vp_in_nI (by omega) (by decide)
          have hup : sp_up pa fc hm fd c n = sp_nf fc hm (fd p n) := by unfold sp_up; rw [ep]
          rw [hup] at hF
          rw [oI_s, sd_x10, nI_add, nI_clamp (by omega), h1 p n (by omega) h]
          refine br_f (nI_pos (by omega)) ⟨hvp, ?_⟩
          cases ef : fd p n with
          | none =>
            rw [ef] at hF
            exact br_t (by decide) (hgo none hF hn128)
          | some m =>
            rw [ef] at hF
            obtain ⟨r1, r2, r3⟩ := sp_sound C M F p n m (by omega) ef
            have r4 := (M.2.1 m r1).1
            rw [oI_s, nI_clamp (by omega), nF_a, nI_clamp (by omega)]
            refine br_f (nI_pos (by omega)) ⟨hvp, vp_in_nI (by omega) (by decide), vp_in_nI (by omega) (by decide), ?_⟩
            unfold sp_nf at hF
            dsimp only at hF
            refine br_c (fun z => ⟨hvp, nm_e ?_⟩) (fun z => ?_)
            · rw [if_pos z] at hF
              exact hgo (some m) hF (fun k e => by cases e; omega)
            · rw [if_neg z] at hF
              exact hgo none hF hn128
theorem sx_table2 {post : SX → Prop} (C : sp_cls nc fc pa ups) (M : sp_mth nc nm fc hm na ln br dc) (F : sp_fd nc pa fc ups hm dc fd) (D : ∀ c n, c < nc → n < 10 → xdc (10 * c + n) = oI (dc c n))
    (K : ∀ xfd : Nat → Int32, (∀ a b, a < nc → b < 10 → xfd (10 * a + b) = oI (fd a b)) → post ((nI nc), (nI nm), (nI nr), xnd, xmd, xnh, xlv, xq, xs, xbt, xft, xdp, xst, xss, xpt, xtr, xsm, fc, (oF pa), xfs, ups, (nF hm), (nF na), br, (nF ln), (nF op), ic, ii, xdc, xfd, (nF rk), rc, rn, xqu, xwt, xsi, xtg, xnw, xfa, xsg, xnn, xtk, xrl, bop, bcl, bin, bsk, bme, bli, bou, xnf, xfm, xfl, xfh, xou, xem, xel)) :
    ∀ fuel c (xfd : Nat → Int32), c ≤ nc → nc - c < fuel → (∀ a b, a < c → b < 10 → xfd (10 * a + b) = oI (fd a b)) → wX_table_2 post (nI nc) (nI nm) (nI nr) xnd xmd xnh xlv xq xs xbt xft xdp xst xss xpt xtr xsm fuel (nI c) fc (oF pa) xfs ups (nF hm) (nF na) br (nF ln) (nF op) ic ii xdc xfd (nF rk) rc rn xqu xwt xsi xtg xnw xfa xsg xnn xtk xrl bop bcl bin bsk bme bli bou xnf xfm xfl xfh xou xem xel := by
  intro fuel
  induction fuel with
  | zero => intro c _ _ h; omega
  | succ f ih =>
    intro c xfd hc hf h1
    have h10 := C.1
    rw [wX_table_2]
    refine pk_le nc c (fun h => K xfd fun a b ha hb => h1 a b (by omega) hb) (fun h => ⟨11, ?_⟩)
    rw [← nI_0]
    exact sx_table12 C M F D h (fun xfd' h' => ih (c + 1) xfd' (by omega) (by omega) h') 11 0 xfd (by omega) (by omega) h1 (fun b hb => by omega)
theorem sx_table {post : SX → Prop} (C : sp_cls nc fc pa ups) (M : sp_mth nc nm fc hm na ln br dc) (F : sp_fd nc pa fc ups hm dc fd) (D : ∀ c n, c < nc → n < 10 → xdc (10 * c + n) = oI (dc c n))
    (K : ∀ xfd : Nat → Int32, (∀ a b, a < nc → b < 10 → xfd (10 * a + b) = oI (fd a b)) → post ((nI nc), (nI nm), (nI nr), xnd, xmd, xnh, xlv, xq, xs, xbt, xft, xdp, xst, xss, xpt, xtr, xsm, fc, (oF pa), xfs, ups, (nF hm), (nF na), br, (nF ln), (nF op), ic, ii, xdc, xfd, (nF rk), rc, rn, xqu, xwt, xsi, xtg, xnw, xfa, xsg, xnn, xtk, xrl, bop, bcl, bin, bsk, bme, bli, bou, xnf, xfm, xfl, xfh, xou, xem, xel)) : wpX_table post ((nI nc), (nI nm), (nI nr), xnd, xmd, xnh, xlv, xq, xs, xbt, xft, xdp, xst, xss, xpt, xtr, xsm, fc, (oF pa), xfs, ups, (nF hm), (nF na), br, (nF ln), (nF op), ic, ii, xdc, xfd, (nF rk), rc, rn, xqu, xwt, xsi, xtg, xnw, xfa, xsg, xnn, xtk, xrl, bop, bcl, bin, bsk, bme, bli, bou, xnf, xfm, xfl, xfh, xou, xem, xel) :=
  ⟨nc + 1, sx_table2 C M F D K (nc + 1) 0 xfd (by omega) (by omega) (fun a b h => by omega)⟩
theorem sx_found {post : Int32 → Prop} {c n : Nat} (C : nc ≤ 10) (A : ∀ a b, a < nc → b < 10 → xfd (10 * a + b) = oI (fd a b)) (hc : c < nc) (hn : n < 10) (hp : post (oI (fd c n))) : wpX_found post ((nI nc), (nI nm), (nI nr), xnd, xmd, xnh, xlv, xq, xs, xbt, xft, xdp, xst, xss, xpt, xtr, xsm, fc, (oF pa), xfs, ups, (nF hm), (nF na), br, (nF ln), (nF op), ic, ii, xdc, xfd, (nF rk), rc, rn, xqu, xwt, xsi, xtg, xnw, xfa, xsg, xnn, xtk, xrl, bop, bcl, bin, bsk, bme, bli, bou, xnf, xfm, xfl, xfh, xou, xem, xel) (nI c) (nI n) := by
  unfold wpX_found
  dsimp only
  rw [sd_x10, nI_add, nI_clamp (by omega), A c n hc hn]
  exact ⟨vp_in_nI (by omega) (by decide), hp⟩
end
end
section
/-! what is wrong with an instruction; the first one with which something is -/
def sp_wr (nc : Nat) (fc br : Nat → Int32) (op cl nn : Nat → Nat) (fd : Nat → Nat → Option Nat) (i : Nat) : Nat :=
  if op i = 0 ∨ op i = 5 then 0 else if nc ≤ cl i then 1 else if op i = 1 then (if fc (cl i) = 0 then 0 else 2) else if op i = 4 then 0 else
  match fd (cl i) (nn i) with
  | none => 3
  | some m => if op i = 3 ∧ ¬ br m = 0 then 3 else 0
def sp_ok (nc nm : Nat) (fc br : Nat → Int32) (ln op cl nn : Nat → Nat) (fd : Nat → Nat → Option Nat) : Prop :=
  ∀ m k, m < nm → k < ln m → sp_wr nc fc br op cl nn fd (6 * m + k) = 0
def sp_bad (nc nm : Nat) (fc br : Nat → Int32) (ln op cl nn : Nat → Nat) (fd : Nat → Nat → Option Nat) (m k : Nat) : Prop :=
  m < nm ∧ k < ln m ∧ ¬ sp_wr nc fc br op cl nn fd (6 * m + k) = 0 ∧ ∀ a b, a < nm → b < ln a → 6 * a + b < 6 * m + k → sp_wr nc fc br op cl nn fd (6 * a + b) = 0
theorem sp_wr3 (nc : Nat) (fc br : Nat → Int32) (op cl nn : Nat → Nat) (fd : Nat → Nat → Option Nat) (i : Nat) : sp_wr nc fc br op cl nn fd i < 4 := by
  unfold sp_wr
  repeat' split
  all_goals omega
section
variable {nc nm nr : Nat} {pa : Nat → Option Nat} {hm na ln op rk cl nn : Nat → Nat} {fc ups br ic ii fs sc rc rn : Nat → Int32} {dc fd : Nat → Nat → Option Nat}
variable {xnd xmd xnh xlv xq xs xbt xft xdp xst xss xpt xtr xsm : Int32} {xfs xdc xfd xqu xwt xsi xtg xnw xfa xsg xnn xtk xrl bop bcl bin bsk bme bli bou xnf xfm xfl xfh xou xem xel : Nat → Int32}
variable {ypl ynd ymd ynh ylv ybt ydp yst yot yen : Int32} {yow yma yil ynu ynn yfa yvm yvl yvh ypu : Nat → Int32}
theorem sx_wrongWith {post : Int32 → Prop} {m k : Nat} (C : sp_cls nc fc pa ups) (M : sp_mth nc nm fc hm na ln br dc) (N : sp_ins nm ln op cl nn ic ii fs sc) (F : sp_fd nc pa fc ups hm dc fd) (A : ∀ a b, a < nc → b < 10 → xfd (10 * a + b) = oI (fd a b)) (hm' : m < nm) (hk : k < ln m)
    (hp : post (nI (sp_wr nc fc br op cl nn fd (6 * m + k)))) : wpX_wrongWith post ((nI nc), (nI nm), (nI nr), xnd, xmd, xnh, xlv, xq, xs, xbt, xft, xdp, xst, xss, xpt, xtr, xsm, fc, (oF pa), xfs, ups, (nF hm), (nF na), br, (nF ln), (nF op), ic, ii, xdc, xfd, (nF rk), rc, rn, xqu, xwt, xsi, xtg, xnw, xfa, xsg, xnn, xtk, xrl, bop, bcl, bin, bsk, bme, bli, bou, xnf, xfm, xfl, xfh, xou, xem, xel) (nI (6 * m + k)) := by
  have h10 := C.1
  have h30 := M.1
  have hl := (M.2.1 m hm').2.2.1
  obtain ⟨n1, n2, n3, n4, n5, n6⟩ := N m k hm' hk
  have hi : 6 * m + k < 180 := by omega
  generalize hie : 6 * m + k = i at *
  have hv : vp_in (nI i) 180 := vp_in_nI hi (by decide)
  unfold wpX_wrongWith
  dsimp only
  rw [nI_clamp (by omega)]
  refine ⟨hv, nm_r (nF_a op i) ⟨hv, nm_e ?_⟩⟩
  by_cases h0 : op i = 0 ∨ op i = 5
  · have e : ic i = -1 := h0.elim (fun z => (n2 z).1) n3
    rw [e]
    unfold sp_wr at hp
    rw [if_pos h0] at hp
    exact br_f (by decide) hp
  · obtain ⟨e1, e2, e3⟩ := n4 (fun z => h0 (Or.inl z)) (fun z => h0 (Or.inr z))
    rw [e1]
    unfold sp_wr at hp
    rw [if_neg h0] at hp
    refine br_t (nI_pos' (by omega)) (pk_lt (cl i) nc (fun hc => ?_) (fun hc => ?_))
    · rw [if_neg (by omega)] at hp
      refine pk_eq (op i) 1 (fun o1 => ⟨vp_in_nI (by omega) (by decide), ?_⟩) (fun o1 => ?_)
      · rw [if_pos o1] at hp
        rw [nI_clamp (by omega)]
        refine br_c (fun z => ?_) (fun z => ?_)
        · rw [if_pos z] at hp; exact hp
        · rw [if_neg z] at hp; exact hp
      · rw [if_neg o1] at hp
        refine pk_eq (op i) 4 (fun o4 => ?_) (fun o4 => ⟨hv, ?_⟩)
        · rw [if_pos o4] at hp; exact hp
        · rw [if_neg o4] at hp
          have o23 : op i = 2 ∨ op i = 3 := by omega
          obtain ⟨f1, f2, f3⟩ := n5 o23
          rw [f1]
          refine sx_found h10 A hc f3 ?_
          cases ef : fd (cl i) (nn i) with
          | none =>
            rw [ef] at hp
            exact br_t (by decide) hp
          | some g =>
            rw [ef] at hp
            dsimp only at hp
            obtain ⟨r1, r2, r3⟩ := sp_sound C M F _ _ g hc ef
            rw [oI_s, nI_clamp (by omega)]
            refine br_f (nI_pos (by omega)) (pk_eq (op i) 3 (fun o3 => ⟨vp_in_nI (by omega) (by decide), br_c (fun z => ?_) (fun z => ?_)⟩) (fun o3 => ?_))
            · rw [if_neg (fun y => y.2 z)] at hp; exact hp
            · rw [if_pos ⟨o3, z⟩] at hp; exact hp
            · rw [if_neg (fun y => o3 y.1)] at hp; exact hp
    · rw [if_pos hc] at hp; exact hp
theorem sx_check16 {post : Int32 → SX → Prop} {J6 : Int32 → Int32 → Prop} {m : Nat} (C : sp_cls nc fc pa ups) (M : sp_mth nc nm fc hm na ln br dc) (N : sp_ins nm ln op cl nn ic ii fs sc) (F : sp_fd nc pa fc ups hm dc fd) (A : ∀ a b, a < nc → b < 10 → xfd (10 * a + b) = oI (fd a b)) (hm' : m < nm)
    (hpre : ∀ a b, a < m → b < ln a → sp_wr nc fc br op cl nn fd (6 * a + b) = 0)
    (hb : ∀ k, sp_bad nc nm fc br ln op cl nn fd m k → post (nI (sp_wr nc fc br op cl nn fd (6 * m + k))) ((nI nc), (nI nm), (nI nr), xnd, xmd, xnh, xlv, xq, xs, xbt, (nI (8 * m + k)), xdp, xst, xss, xpt, xtr, xsm, fc, (oF pa), xfs, ups, (nF hm), (nF na), br, (nF ln), (nF op), ic, ii, xdc, xfd, (nF rk), rc, rn, xqu, xwt, xsi, xtg, xnw, xfa, xsg, xnn, xtk, xrl, bop, bcl, bin, bsk, bme, bli, bou, xnf, xfm, xfl, xfh, xou, xem, xel))
    (hg : (∀ k, k < ln m → sp_wr nc fc br op cl nn fd (6 * m + k) = 0) → ∀ flt, J6 (nI (m + 1)) flt) :
    ∀ fuel k flt, k ≤ ln m → ln m - k < fuel → (∀ b, b < k → sp_wr nc fc br op cl nn fd (6 * m + b) = 0) → wX_check_16 post J6 (nI m) (nI nc) (nI nm) (nI nr) xnd xmd xnh xlv xq xs xbt xdp xst xss xpt xtr xsm fc (oF pa) xfs ups (nF hm) (nF na) br (nF ln) (nF op) ic ii xdc xfd (nF rk) rc rn xqu xwt xsi xtg xnw xfa xsg xnn xtk xrl bop bcl bin bsk bme bli bou xnf xfm xfl xfh xou xem xel fuel (nI k) flt := by
  intro fuel
  induction fuel with
  | zero => intro k _ _ h; omega
  | succ f ih =>
    intro k flt hk hf h0
    have h10 := C.1
    have h30 := M.1
    have hl := (M.2.1 m hm').2.2.1
    rw [wX_check_16]
    dsimp only
    rw [sd_x6, nI_add, sd_x8, nI_add, nI_clamp (by omega), nF_a]
    refine ⟨vp_in_nI (by omega) (by decide), pk_le (ln m) k (fun h => nm_r (nI_1 m) (hg (fun b hb' => h0 b (by omega)) flt)) (fun h => ?_)⟩
    refine sx_wrongWith C M N F A hm' h (nm_e ?_)
    by_cases z : sp_wr nc fc br op cl nn fd (6 * m + k) = 0
    · rw [z]
      exact br_t rfl (nm_r (nI_1 k) (ih (k + 1) _ (by omega) (by omega) (lt_s h0 z)))
    · have := sp_wr3 nc fc br op cl nn fd (6 * m + k)
      refine br_f (nI_ne0 (by omega) (by omega)) (hb k ⟨hm', h, z, fun a b ha hb' hlt => ?_⟩)
      have hla := (M.2.1 a ha).2.2.1
      rcases Nat.lt_or_ge a m with y | y
      · exact hpre a b y hb'
      · have e : a = m := by omega
        subst e; exact h0 b (by omega)
theorem sx_check6 {post : Int32 → SX → Prop} (C : sp_cls nc fc pa ups) (M : sp_mth nc nm fc hm na ln br dc) (N : sp_ins nm ln op cl nn ic ii fs sc) (F : sp_fd nc pa fc ups hm dc fd) (A : ∀ a b, a < nc → b < 10 → xfd (10 * a + b) = oI (fd a b))
    (hb : ∀ m k, sp_bad nc nm fc br ln op cl nn fd m k → post (nI (sp_wr nc fc br op cl nn fd (6 * m + k))) ((nI nc), (nI nm), (nI nr), xnd, xmd, xnh, xlv, xq, xs, xbt, (nI (8 * m + k)), xdp, xst, xss, xpt, xtr, xsm, fc, (oF pa), xfs, ups, (nF hm), (nF na), br, (nF ln), (nF op), ic, ii, xdc, xfd, (nF rk), rc, rn, xqu, xwt, xsi, xtg, xnw, xfa, xsg, xnn, xtk, xrl, bop, bcl, bin, bsk, bme, bli, bou, xnf, xfm, xfl, xfh, xou, xem, xel))
    (hg : sp_ok nc nm fc br ln op cl nn fd → post 0 ((nI nc), (nI nm), (nI nr), xnd, xmd, xnh, xlv, xq, xs, xbt, (-1), xdp, xst, xss, xpt, xtr, xsm, fc, (oF pa), xfs, ups, (nF hm), (nF na), br, (nF ln), (nF op), ic, ii, xdc, xfd, (nF rk), rc, rn, xqu, xwt, xsi, xtg, xnw, xfa, xsg, xnn, xtk, xrl, bop, bcl, bin, bsk, bme, bli, bou, xnf, xfm, xfl, xfh, xou, xem, xel)) :
    ∀ fuel m flt, m ≤ nm → nm - m < fuel → (∀ a b, a < m → b < ln a → sp_wr nc fc br op cl nn fd (6 * a + b) = 0) → wX_check_6 post (nI nc) (nI nm) (nI nr) xnd xmd xnh xlv xq xs xbt xdp xst xss xpt xtr xsm fc (oF pa) xfs ups (nF hm) (nF na) br (nF ln) (nF op) ic ii xdc xfd (nF rk) rc rn xqu xwt xsi xtg xnw xfa xsg xnn xtk xrl bop bcl bin bsk bme bli bou xnf xfm xfl xfh xou xem xel fuel (nI m) flt := by
  intro fuel
  induction fuel with
  | zero => intro m _ _ h; omega
  | succ f ih =>
    intro m flt hm' hf h0
    have h30 := M.1
    rw [wX_check_6]
    refine pk_le nm m (fun h => hg (fun a b ha hb' => h0 a b (by omega) hb')) (fun h => ⟨7, ?_⟩)
    have hl := (M.2.1 m h).2.2.1
    rw [← nI_0]
    refine sx_check16 C M N F A h h0 (fun k => hb m k) (fun h1 flt => ih (m + 1) flt (by omega) (by omega) (fun a b ha hb' => ?_)) 7 0 flt (by omega) (by omega) (fun b hb' => by omega)
    rcases Nat.lt_or_ge a m with y | y
    · exact h0 a b y hb'
    · have e : a = m := by omega
      subst e; exact h1 b hb'
theorem sx_check {post : Int32 → SX → Prop} (C : sp_cls nc fc pa ups) (M : sp_mth nc nm fc hm na ln br dc) (N : sp_ins nm ln op cl nn ic ii fs sc) (F : sp_fd nc pa fc ups hm dc fd) (D : ∀ c n, c < nc → n < 10 → xdc (10 * c + n) = oI (dc c n))
    (hb : ∀ m k (xfd : Nat → Int32), (∀ a b, a < nc → b < 10 → xfd (10 * a + b) = oI (fd a b)) → sp_bad nc nm fc br ln op cl nn fd m k → post (nI (sp_wr nc fc br op cl nn fd (6 * m + k))) ((nI nc), (nI nm), (nI nr), xnd, xmd, xnh, xlv, xq, xs, xbt, (nI (8 * m + k)), xdp, xst, xss, xpt, xtr, xsm, fc, (oF pa), xfs, ups, (nF hm), (nF na), br, (nF ln), (nF op), ic, ii, xdc, xfd, (nF rk), rc, rn, xqu, xwt, xsi, xtg, xnw, xfa, xsg, xnn, xtk, xrl, bop, bcl, bin, bsk, bme, bli, bou, xnf, xfm, xfl, xfh, xou, xem, xel))
    (hg : ∀ xfd : Nat → Int32, (∀ a b, a < nc → b < 10 → xfd (10 * a + b) = oI (fd a b)) → sp_ok nc nm fc br ln op cl nn fd → post 0 ((nI nc), (nI nm), (nI nr), xnd, xmd, xnh, xlv, xq, xs, xbt, (-1), xdp, xst, xss, xpt, xtr, xsm, fc, (oF pa), xfs, ups, (nF hm), (nF na), br, (nF ln), (nF op), ic, ii, xdc, xfd, (nF rk), rc, rn, xqu, xwt, xsi, xtg, xnw, xfa, xsg, xnn, xtk, xrl, bop, bcl, bin, bsk, bme, bli, bou, xnf, xfm, xfl, xfh, xou, xem, xel)) : wpX_check post ((nI nc), (nI nm), (nI nr), xnd, xmd, xnh, xlv, xq, xs, xbt, xft, xdp, xst, xss, xpt, xtr, xsm, fc, (oF pa), xfs, ups, (nF hm), (nF na), br, (nF ln), (nF op), ic, ii, xdc, xfd, (nF rk), rc, rn, xqu, xwt, xsi, xtg, xnw, xfa, xsg, xnn, xtk, xrl, bop, bcl, bin, bsk, bme, bli, bou, xnf, xfm, xfl, xfh, xou, xem, xel) := by
  unfold wpX_check
  dsimp only
  refine sx_table C M F D (fun xfd A => ⟨nm + 1, ?_⟩)
  rw [← nI_0]
  exact sx_check6 C M N F A (fun m k h => hb m k xfd A h) (fun h => hg xfd A h) (nm + 1) 0 xft (by omega) (by omega) (fun a b h => by omega)
/-! the reference -/
theorem sy_examine2 {post : Int32 → SY → Prop} (C : sp_cls nc fc pa ups) (M : sp_mth nc nm fc hm na ln br dc) (N : sp_ins nm ln op cl nn ic ii fs sc) (F : sp_fd nc pa fc ups hm dc fd)
    (hb : ∀ m k, sp_bad nc nm fc br ln op cl nn fd m k → post (nI (sp_wr nc fc br op cl nn fd (6 * m + k))) ((nI nc), (nI nm), (nI nr), (nI (8 * m + k)), ynd, ymd, ynh, ylv, ybt, ydp, yst, yot, yen, fc, br, (oF pa), ups, yow, yma, (nF hm), (nF na), (nF ln), (nF op), fs, sc, (nF rk), rc, rn, yil, ynu, ynn, yfa, yvm, yvl, yvh, ypu))
    (hg : sp_ok nc nm fc br ln op cl nn fd → post 0 ((nI nc), (nI nm), (nI nr), ypl, ynd, ymd, ynh, ylv, ybt, ydp, yst, yot, yen, fc, br, (oF pa), ups, yow, yma, (nF hm), (nF na), (nF ln), (nF op), fs, sc, (nF rk), rc, rn, yil, ynu, ynn, yfa, yvm, yvl, yvh, ypu)) :
    ∀ fuel i, i ≤ 6 * nm → 6 * nm - i < fuel → (∀ a b, a < nm → b < ln a → 6 * a + b < i → sp_wr nc fc br op cl nn fd (6 * a + b) = 0) → wY_examine_2 post (nI nc) (nI nm) (nI nr) ypl ynd ymd ynh ylv ybt ydp yst yot yen fc br (oF pa) ups yow yma (nF hm) (nF na) (nF ln) (nF op) fs sc (nF rk) rc rn yil ynu ynn yfa yvm yvl yvh ypu fuel (nI i) := by
  intro fuel
  induction fuel with
  | zero => intro i _ h; omega
  | succ f ih =>
    intro i hi hf h0
    have h10 := C.1
    have h30 := M.1
    rw [wY_examine_2]
    dsimp only
    rw [sd_x6]
    refine pk_le (6 * nm) i (fun h => hg (fun a b ha hb' => h0 a b ha hb' ?_)) (fun h => ?_)
    · have := (M.2.1 a ha).2.2.1
      omega
    · have hq : i / 6 < nm := by omega
      have hl := (M.2.1 (i / 6) hq).2.2.1
      have hv : vp_in (nI i) 180 := vp_in_nI (by omega) (by decide)
      have hsplit : 6 * (i / 6) + i % 6 = i := by omega
      have hnext : (i % 6 < ln (i / 6) → sp_wr nc fc br op cl nn fd i = 0) → ∀ y, y = nI i + 1 → wY_examine_2 post (nI nc) (nI nm) (nI nr) ypl ynd ymd ynh ylv ybt ydp yst yot yen fc br (oF pa) ups yow yma (nF hm) (nF na) (nF ln) (nF op) fs sc (nF rk) rc rn yil ynu ynn yfa yvm yvl yvh ypu f y := fun hne =>
        nm_r (nI_1 i) (ih (i + 1) (by omega) (by omega) (fun a b ha hb' hlt => by
          rcases Nat.lt_or_ge (6 * a + b) i with y | y
          · exact h0 a b ha hb' y
          · have := (M.2.1 a ha).2.2.1
            have e : 6 * a + b = i := by omega
            have e1 : a = i / 6 := by omega
            have e2 : b = i % 6 := by omega
            rw [e]; exact hne (by rw [← e1, ← e2]; exact hb')))
      rw [sd_r6 (by omega), sd_d6 (by omega), nI_clamp (by omega), nI_clamp (by omega), nF_a]
      refine ⟨hv, nm_r (nF_a op i) ⟨hv, nm_e ⟨sd_60, sd_60, vp_in_nI (by omega) (by decide), pk_le (ln (i / 6)) (i % 6) (fun hk => hnext (fun z => by omega)) (fun hk => ?_)⟩⟩⟩
      have N1 := N (i / 6) (i % 6) hq hk
      rw [hsplit] at N1
      obtain ⟨n1, n2, n3, n4, n5, n6⟩ := N1
      have hw : ∀ v, sp_wr nc fc br op cl nn fd i = v → wY_examine_138 post (wY_examine_2 post (nI nc) (nI nm) (nI nr) ypl ynd ymd ynh ylv ybt ydp yst yot yen fc br (oF pa) ups yow yma (nF hm) (nF na) (nF ln) (nF op) fs sc (nF rk) rc rn yil ynu ynn yfa yvm yvl yvh ypu f) (nI i) (nI v) (nI nc) (nI nm) (nI nr) ypl ynd ymd ynh ylv ybt ydp yst yot yen fc br (oF pa) ups yow yma (nF hm) (nF na) (nF ln) (nF op) fs sc (nF rk) rc rn yil ynu ynn yfa yvm yvl yvh ypu := by
        intro v hv'
        have h3 := sp_wr3 nc fc br op cl nn fd i
        unfold wY_examine_138
        rw [sd_r6 (by omega), sd_d6 (by omega), sd_x8r, nI_add]
        refine pk_eq v 0 (fun z => hnext (fun _ => hv'.trans z)) (fun z => ⟨sd_60, sd_60, nm_e ?_⟩)
        have hbad : sp_bad nc nm fc br ln op cl nn fd (i / 6) (i % 6) := ⟨hq, hk, by rw [hsplit, hv']; exact z, fun a b ha hb' hlt => h0 a b ha hb' (by omega)⟩
        have := hb (i / 6) (i % 6) hbad
        rw [hsplit, hv', Nat.mul_comm] at this
        exact this
      refine pk_eq (op i) 0 (fun o0 => hnext (fun _ => by unfold sp_wr; rw [if_pos (Or.inl o0)])) (fun o0 => pk_eq (op i) 5 (fun o5 => hnext (fun _ => by unfold sp_wr; rw [if_pos (Or.inr o5)])) (fun o5 => ?_))
      obtain ⟨e1, e2, e3⟩ := n4 o0 o5
      have hw0 : sp_wr nc fc br op cl nn fd i = if nc ≤ cl i then 1 else if op i = 1 then (if fc (cl i) = 0 then 0 else 2) else if op i = 4 then 0 else
          match fd (cl i) (nn i) with
          | none => 3
          | some m => if op i = 3 ∧ ¬ br m = 0 then 3 else 0 := by
        show (if op i = 0 ∨ op i = 5 then 0 else _) = _
        rw [if_neg (by omega)]
      rw [e2]
      refine pk_lt (cl i) nc (fun hc => ?_) (fun hc => hw 1 (by rw [hw0, if_pos hc]))
      rw [if_neg (by omega)] at hw0
      have h92 : (op i = 1 → fc (cl i) = 0) → wY_examine_92 post (wY_examine_2 post (nI nc) (nI nm) (nI nr) ypl ynd ymd ynh ylv ybt ydp yst yot yen fc br (oF pa) ups yow yma (nF hm) (nF na) (nF ln) (nF op) fs sc (nF rk) rc rn yil ynu ynn yfa yvm yvl yvh ypu f) (nI i) (nI (op i)) (nI (cl i)) 0 (nI nc) (nI nm) (nI nr) ypl ynd ymd ynh ylv ybt ydp yst yot yen fc br (oF pa) ups yow yma (nF hm) (nF na) (nF ln) (nF op) fs sc (nF rk) rc rn yil ynu ynn yfa yvm yvl yvh ypu := by
        intro hf1
        have h102 : op i = 2 ∨ op i = 3 → wY_examine_102 post (wY_examine_2 post (nI nc) (nI nm) (nI nr) ypl ynd ymd ynh ylv ybt ydp yst yot yen fc br (oF pa) ups yow yma (nF hm) (nF na) (nF ln) (nF op) fs sc (nF rk) rc rn yil ynu ynn yfa yvm yvl yvh ypu f) (nI i) (nI (op i)) (nI (cl i)) 0 (nI nc) (nI nm) (nI nr) ypl ynd ymd ynh ylv ybt ydp yst yot yen fc br (oF pa) ups yow yma (nF hm) (nF na) (nF ln) (nF op) fs sc (nF rk) rc rn yil ynu ynn yfa yvm yvl yvh ypu := by
          intro o23
          obtain ⟨f1, f2, f3⟩ := n5 o23
          rw [if_neg (by omega), if_neg (by omega)] at hw0
          unfold wY_examine_102
          rw [nI_clamp (by omega), f2]
          refine ⟨hv, sy_finds C M F hc f3 ?_⟩
          cases ef : fd (cl i) (nn i) with
          | none =>
            rw [ef] at hw0
            exact br_t (by decide) (hw 3 hw0)
          | some g =>
            rw [ef] at hw0
            dsimp only at hw0
            obtain ⟨r1, r2, r3⟩ := sp_sound C M F _ _ g hc ef
            rw [oI_s, nI_clamp (by omega)]
            refine br_f (nI_pos (by omega)) (pk_eq (op i) 3 (fun o3 => ⟨vp_in_nI (by omega) (by decide), br_c (fun z => ?_) (fun z => ?_)⟩) (fun o3 => ?_))
            · exact hw 0 (by rw [hw0, if_neg (fun y => y.2 z)])
            · exact hw 3 (by rw [hw0, if_pos ⟨o3, z⟩])
            · exact hw 0 (by rw [hw0, if_neg (fun y => o3 y.1)])
        unfold wY_examine_92
        refine pk_eq (op i) 2 (fun o2 => h102 (Or.inl o2)) (fun o2 => pk_eq (op i) 3 (fun o3 => h102 (Or.inr o3)) (fun o3 => hw 0 ?_))
        rw [hw0]
        by_cases o1 : op i = 1
        · rw [if_pos o1, if_pos (hf1 o1)]
        · rw [if_neg o1, if_pos (by omega)]
      refine pk_eq (op i) 1 (fun o1 => ⟨vp_in_nI (by omega) (by decide), ?_⟩) (fun o1 => h92 (fun z => absurd z o1))
      rw [nI_clamp (by omega)]
      exact br_c (fun z => h92 (fun _ => z)) (fun z => hw 2 (by rw [hw0, if_pos o1, if_neg z]))
theorem sy_examine {post : Int32 → SY → Prop} (C : sp_cls nc fc pa ups) (M : sp_mth nc nm fc hm na ln br dc) (N : sp_ins nm ln op cl nn ic ii fs sc) (F : sp_fd nc pa fc ups hm dc fd)
    (hb : ∀ m k, sp_bad nc nm fc br ln op cl nn fd m k → post (nI (sp_wr nc fc br op cl nn fd (6 * m + k))) ((nI nc), (nI nm), (nI nr), (nI (8 * m + k)), ynd, ymd, ynh, ylv, ybt, ydp, yst, yot, yen, fc, br, (oF pa), ups, yow, yma, (nF hm), (nF na), (nF ln), (nF op), fs, sc, (nF rk), rc, rn, yil, ynu, ynn, yfa, yvm, yvl, yvh, ypu))
    (hg : sp_ok nc nm fc br ln op cl nn fd → post 0 ((nI nc), (nI nm), (nI nr), ypl, ynd, ymd, ynh, ylv, ybt, ydp, yst, yot, yen, fc, br, (oF pa), ups, yow, yma, (nF hm), (nF na), (nF ln), (nF op), fs, sc, (nF rk), rc, rn, yil, ynu, ynn, yfa, yvm, yvl, yvh, ypu)) : wpY_examine post ((nI nc), (nI nm), (nI nr), ypl, ynd, ymd, ynh, ylv, ybt, ydp, yst, yot, yen, fc, br, (oF pa), ups, yow, yma, (nF hm), (nF na), (nF ln), (nF op), fs, sc, (nF rk), rc, rn, yil, ynu, ynn, yfa, yvm, yvl, yvh, ypu) :=
  ⟨6 * nm + 1, sy_examine2 C M N F hb hg (6 * nm + 1) 0 (by omega) (by omega) (fun a b _ _ h => by omega)⟩
end
theorem sp_badU {nc nm : Nat} {fc br : Nat → Int32} {ln op cl nn : Nat → Nat} {fd : Nat → Nat → Option Nat} {m k m' k' : Nat} (hl : ∀ m, m < nm → ln m ≤ 6) (h : sp_bad nc nm fc br ln op cl nn fd m k) (h' : sp_bad nc nm fc br ln op cl nn fd m' k') : m = m' ∧ k = k' := by
  obtain ⟨a1, a2, a3, a4⟩ := h
  obtain ⟨b1, b2, b3, b4⟩ := h'
  have := hl m a1
  have := hl m' b1
  rcases Nat.lt_trichotomy (6 * m + k) (6 * m' + k') with z | z | z
  · exact absurd (b4 m k a1 a2 z) a3
  · omega
  · exact absurd (a4 m' k' b1 b2 z) b3
end
section
/-! marking: the least sets that are closed. Kinds: 0 a class is named, 1 made, 2 a method is named or live, 3 live -/
def sm_in (nc nm nr : Nat) (ups : Nat → Int32) (hm na ln : Nat → Nat) (br : Nat → Int32) (op cl nn : Nat → Nat) (fd : Nat → Nat → Option Nat) (tg : Nat → Option Nat) (rk : Nat → Nat) (rc rn : Nat → Int32) (Q : Nat → Nat → Prop) (i : Nat) : Prop :=
  (op i ≠ 0 → op i ≠ 5 → (op i = 3 → tg i = none) → Q 0 (cl i)) ∧ (op i = 1 → Q 1 (cl i)) ∧
  (op i = 2 → tg i = none → ∀ g, fd (cl i) (nn i) = some g → Q 2 g) ∧
  (op i = 3 → tg i = none → ∀ g, fd (cl i) (nn i) = some g → Q 3 g) ∧
  (op i = 2 → tg i = none → ∀ d g, d < nc → Q 1 d → bt (ups d) (cl i) = true → fd d (nn i) = some g → Q 2 g ∧ (br g = 0 → Q 3 g))
def sm_cl (nc nm nr : Nat) (ups : Nat → Int32) (hm na ln : Nat → Nat) (br : Nat → Int32) (op cl nn : Nat → Nat) (fd : Nat → Nat → Option Nat) (tg : Nat → Option Nat) (rk : Nat → Nat) (rc rn : Nat → Int32) (Q : Nat → Nat → Prop) : Prop :=
  (∀ r c, r < nr → rk r = 0 → c < nc → bt (rc r) c = true → Q 0 c) ∧
  (∀ r m, r < nr → rk r = 0 → m < nm → bt (rc r) (hm m) = true → bt (rn r) (na m) = true → Q 2 m ∧ (br m = 0 → Q 3 m)) ∧
  (∀ m, m < nm → Q 2 m → Q 0 (hm m)) ∧ (∀ m, m < nm → Q 3 m → Q 2 m) ∧
  (∀ c a, c < nc → Q 0 c → bt (ups c) a = true → Q 0 a) ∧
  (∀ m k, m < nm → Q 3 m → k < ln m → sm_in nc nm nr ups hm na ln br op cl nn fd tg rk rc rn Q (6 * m + k))
def sm_ML (nc nm nr : Nat) (ups : Nat → Int32) (hm na ln : Nat → Nat) (br : Nat → Int32) (op cl nn : Nat → Nat) (fd : Nat → Nat → Option Nat) (tg : Nat → Option Nat) (rk : Nat → Nat) (rc rn : Nat → Int32) (j x : Nat) : Prop := ∀ Q, sm_cl nc nm nr ups hm na ln br op cl nn fd tg rk rc rn Q → Q j x
section
variable {nc nm nr : Nat} {ups : Nat → Int32} {hm na ln : Nat → Nat} {br : Nat → Int32} {op cl nn : Nat → Nat} {fd : Nat → Nat → Option Nat} {tg : Nat → Option Nat} {rk : Nat → Nat} {rc rn : Nat → Int32} {fc : Nat → Int32} {pa : Nat → Option Nat} {dc : Nat → Nat → Option Nat}
theorem sm_MLc : sm_cl nc nm nr ups hm na ln br op cl nn fd tg rk rc rn (sm_ML nc nm nr ups hm na ln br op cl nn fd tg rk rc rn) := by
  refine ⟨?_, ?_, ?_, ?_, ?_, ?_⟩
  · intro r c h1 h2 h3 h4 Q hQ
    exact hQ.1 r c h1 h2 h3 h4
  · intro r m h1 h2 h3 h4 h5
    exact ⟨fun Q hQ => (hQ.2.1 r m h1 h2 h3 h4 h5).1, fun hb Q hQ => (hQ.2.1 r m h1 h2 h3 h4 h5).2 hb⟩
  · intro m h1 h2 Q hQ
    exact hQ.2.2.1 m h1 (h2 Q hQ)
  · intro m h1 h2 Q hQ
    exact hQ.2.2.2.1 m h1 (h2 Q hQ)
  · intro c a h1 h2 h3 Q hQ
    exact hQ.2.2.2.2.1 c a h1 (h2 Q hQ) h3
  · intro m k h1 h2 h3
    refine ⟨?_, ?_, ?_, ?_, ?_⟩
    · intro a b c Q hQ
      exact (hQ.2.2.2.2.2 m k h1 (h2 Q hQ) h3).1 a b c
    · intro a Q hQ
      exact (hQ.2.2.2.2.2 m k h1 (h2 Q hQ) h3).2.1 a
    · intro a b g hg Q hQ
      exact (hQ.2.2.2.2.2 m k h1 (h2 Q hQ) h3).2.2.1 a b g hg
    · intro a b g hg Q hQ
      exact (hQ.2.2.2.2.2 m k h1 (h2 Q hQ) h3).2.2.2.1 a b g hg
    · intro a b d g hd h4 h5 h6
      exact ⟨fun Q hQ => ((hQ.2.2.2.2.2 m k h1 (h2 Q hQ) h3).2.2.2.2 a b d g hd (h4 Q hQ) h5 h6).1, fun hb Q hQ => ((hQ.2.2.2.2.2 m k h1 (h2 Q hQ) h3).2.2.2.2 a b d g hd (h4 Q hQ) h5 h6).2 hb⟩
theorem sp_okc {m k : Nat} (W : sp_ok nc nm fc br ln op cl nn fd) (hm' : m < nm) (hk : k < ln m) (h0 : op (6 * m + k) ≠ 0) (h5 : op (6 * m + k) ≠ 5) : cl (6 * m + k) < nc := by
  have := W m k hm' hk
  unfold sp_wr at this
  rw [if_neg (by omega)] at this
  split at this
  · omega
  · omega
theorem sp_okf {m k : Nat} (W : sp_ok nc nm fc br ln op cl nn fd) (hm' : m < nm) (hk : k < ln m) (h : op (6 * m + k) = 2 ∨ op (6 * m + k) = 3) : ∃ g, fd (cl (6 * m + k)) (nn (6 * m + k)) = some g ∧ (op (6 * m + k) = 3 → br g = 0) := by
  have h1 := W m k hm' hk
  have h2 := sp_okc W hm' hk (by omega) (by omega)
  unfold sp_wr at h1
  rw [if_neg (by omega), if_neg (by omega), if_neg (by omega), if_neg (by omega)] at h1
  cases e : fd (cl (6 * m + k)) (nn (6 * m + k)) with
  | none => rw [e] at h1; cases h1
  | some g =>
    rw [e] at h1
    refine ⟨g, rfl, fun h3 => ?_⟩
    dsimp only at h1
    by_cases z : br g = 0
    · exact z
    · rw [if_pos ⟨h3, z⟩] at h1; cases h1
theorem sm_rng (C : sp_cls nc fc pa ups) (M : sp_mth nc nm fc hm na ln br dc) (F : sp_fd nc pa fc ups hm dc fd) (W : sp_ok nc nm fc br ln op cl nn fd) {j x : Nat} (h : sm_ML nc nm nr ups hm na ln br op cl nn fd tg rk rc rn j x) : (j = 0 ∨ j = 1 → x < nc) ∧ (j = 2 → x < nm) ∧ (j = 3 → x < nm ∧ br x = 0) := by
  refine h (fun j x => (j = 0 ∨ j = 1 → x < nc) ∧ (j = 2 → x < nm) ∧ (j = 3 → x < nm ∧ br x = 0)) ⟨?_, ?_, ?_, ?_, ?_, ?_⟩
  · intro r c h1 h2 h3 h4
    exact ⟨fun _ => h3, fun z => by omega, fun z => by omega⟩
  · intro r m h1 h2 h3 h4 h5
    exact ⟨⟨fun z => by omega, fun _ => h3, fun z => by omega⟩, fun hb => ⟨fun z => by omega, fun z => by omega, fun _ => ⟨h3, hb⟩⟩⟩
  · intro m h1 h2
    exact ⟨fun _ => (M.2.1 m h1).1, fun z => by omega, fun z => by omega⟩
  · intro m h1 h2
    exact ⟨fun z => by omega, fun _ => h1, fun z => by omega⟩
  · intro c a h1 h2 h3
    have := (C.2.2.2.2.1 c a h1 h3).1
    exact ⟨fun _ => by omega, fun z => by omega, fun z => by omega⟩
  · intro m k h1 h2 h3
    refine ⟨?_, ?_, ?_, ?_, ?_⟩
    · intro a b c
      exact ⟨fun _ => sp_okc W h1 h3 a b, fun z => by omega, fun z => by omega⟩
    · intro a
      exact ⟨fun _ => sp_okc W h1 h3 (by omega) (by omega), fun z => by omega, fun z => by omega⟩
    · intro a b g hg
      have := sp_okc W h1 h3 (by omega) (by omega)
      exact ⟨fun z => by omega, fun _ => (sp_sound C M F _ _ g this hg).1, fun z => by omega⟩
    · intro a b g hg
      have := sp_okc W h1 h3 (by omega) (by omega)
      obtain ⟨g', e1, e2⟩ := sp_okf W h1 h3 (Or.inr a)
      rw [hg] at e1
      cases e1
      exact ⟨fun z => by omega, fun z => by omega, fun _ => ⟨(sp_sound C M F _ _ g this hg).1, e2 a⟩⟩
    · intro a b d g hd h4 h5 h6
      have := (sp_sound C M F _ _ g hd h6).1
      exact ⟨⟨fun z => by omega, fun _ => this, fun z => by omega⟩, fun hb => ⟨fun z => by omega, fun z => by omega, fun _ => ⟨this, hb⟩⟩⟩
end
end
section
/-! the component's marking: what holds of its worklists -/
def sm_FL (op cl nn : Nat → Nat) (fd : Nat → Nat → Option Nat) (tg : Nat → Option Nat) (nd md lv : Int32) (wt : Nat → Int32) (i : Nat) : Prop :=
  (op i ≠ 0 → op i ≠ 5 → (op i = 3 → tg i = none) → bt nd (cl i) = true) ∧ (op i = 1 → bt md (cl i) = true) ∧
  (op i = 2 → tg i = none → ¬ wt (10 * cl i + nn i) = 0) ∧ (op i = 3 → tg i = none → ∀ g, fd (cl i) (nn i) = some g → bt lv g = true)
def sm_XA (nc nm nr : Nat) (ups : Nat → Int32) (hm na ln : Nat → Nat) (br : Nat → Int32) (op cl nn : Nat → Nat) (fd : Nat → Nat → Option Nat) (tg : Nat → Option Nat) (rk : Nat → Nat) (rc rn : Nat → Int32) (nd md nh lv : Int32) : Prop :=
  (∀ c, bt nd c = true → sm_ML nc nm nr ups hm na ln br op cl nn fd tg rk rc rn 0 c) ∧ (∀ c, bt md c = true → sm_ML nc nm nr ups hm na ln br op cl nn fd tg rk rc rn 1 c) ∧ (∀ m, bt nh m = true → sm_ML nc nm nr ups hm na ln br op cl nn fd tg rk rc rn 2 m) ∧ (∀ m, bt lv m = true → sm_ML nc nm nr ups hm na ln br op cl nn fd tg rk rc rn 3 m) ∧
  (∀ c a, bt nd c = true → bt (ups c) a = true → bt nd a = true) ∧ (∀ m, bt nh m = true → bt nd (hm m) = true) ∧ (∀ m, bt lv m = true → bt nd (hm m) = true)
def sm_XQ (nm : Nat) (lv : Int32) (q : Nat) (qu : Nat → Int32) (ph : Nat) : Prop :=
  (∀ j, j < q → ∃ m, m < nm ∧ qu j = nI m ∧ bt lv m = true) ∧ cn (fun m => bt lv m = true) 30 = q + ph
def sm_XS (wt : Nat → Int32) (s : Nat) (si : Nat → Int32) : Prop :=
  cn (fun k => ¬ wt k = 0) 100 = s ∧ (∀ j, j < s → ∃ k, k < 100 ∧ si j = nI k ∧ ¬ wt k = 0) ∧ (∀ k, k < 100 → ¬ wt k = 0 → ∃ j, j < s ∧ si j = nI k)
def sm_XG (nc nm nr : Nat) (ups : Nat → Int32) (hm na ln : Nat → Nat) (br : Nat → Int32) (op cl nn : Nat → Nat) (fd : Nat → Nat → Option Nat) (tg : Nat → Option Nat) (rk : Nat → Nat) (rc rn : Nat → Int32) (nh lv md : Int32) (wt : Nat → Int32) (ex : Nat → Nat → Prop) : Prop :=
  (∀ c n, c < 10 → n < 10 → ¬ wt (10 * c + n) = 0 → c < nc ∧ (∃ g, fd c n = some g ∧ bt nh g = true) ∧ ∀ d g, d < nc → sm_ML nc nm nr ups hm na ln br op cl nn fd tg rk rc rn 1 d → bt (ups d) c = true → fd d n = some g → sm_ML nc nm nr ups hm na ln br op cl nn fd tg rk rc rn 2 g ∧ (br g = 0 → sm_ML nc nm nr ups hm na ln br op cl nn fd tg rk rc rn 3 g)) ∧
  (∀ c n d g, c < 10 → n < 10 → ¬ wt (10 * c + n) = 0 → bt md d = true → bt (ups d) c = true → fd d n = some g → ex (10 * c + n) d ∨ (bt nh g = true ∧ (br g = 0 → bt lv g = true)))
def sm_XH (ln op cl nn : Nat → Nat) (fd : Nat → Nat → Option Nat) (tg : Nat → Option Nat) (lv : Int32) (q : Nat) (qu : Nat → Int32) (nd md : Int32) (wt : Nat → Int32) (td : Nat → Nat → Prop) : Prop :=
  ∀ m, bt lv m = true → (∃ j, j < q ∧ qu j = nI m) ∨ ∀ k, k < ln m → td m k ∨ sm_FL op cl nn fd tg nd md lv wt (6 * m + k)
def sm_XI (nc nm nr : Nat) (ups : Nat → Int32) (hm na ln : Nat → Nat) (br : Nat → Int32) (op cl nn : Nat → Nat) (fd : Nat → Nat → Option Nat) (tg : Nat → Option Nat) (rk : Nat → Nat) (rc rn : Nat → Int32) (ex td : Nat → Nat → Prop) (ph : Nat) (nd md nh lv : Int32) (q s : Nat) (qu wt si : Nat → Int32) : Prop :=
  sm_XA nc nm nr ups hm na ln br op cl nn fd tg rk rc rn nd md nh lv ∧ sm_XQ nm lv q qu ph ∧ sm_XS wt s si ∧ sm_XG nc nm nr ups hm na ln br op cl nn fd tg rk rc rn nh lv md wt ex ∧ sm_XH ln op cl nn fd tg lv q qu nd md wt td
/-- the marks grow -/
def sm_le (nd md nh lv : Int32) (wt : Nat → Int32) (nd' md' nh' lv' : Int32) (wt' : Nat → Int32) : Prop :=
  (∀ x, bt nd x = true → bt nd' x = true) ∧ (∀ x, bt md x = true → bt md' x = true) ∧ (∀ x, bt nh x = true → bt nh' x = true) ∧ (∀ x, bt lv x = true → bt lv' x = true) ∧ (∀ k, ¬ wt k = 0 → ¬ wt' k = 0)
theorem sm_le_r {nd md nh lv : Int32} {wt : Nat → Int32} : sm_le nd md nh lv wt nd md nh lv wt := ⟨fun _ h => h, fun _ h => h, fun _ h => h, fun _ h => h, fun _ h => h⟩
theorem sm_le_t {nd md nh lv nd1 md1 nh1 lv1 nd2 md2 nh2 lv2 : Int32} {wt wt1 wt2 : Nat → Int32} (h : sm_le nd md nh lv wt nd1 md1 nh1 lv1 wt1) (h' : sm_le nd1 md1 nh1 lv1 wt1 nd2 md2 nh2 lv2 wt2) : sm_le nd md nh lv wt nd2 md2 nh2 lv2 wt2 :=
  ⟨fun x y => h'.1 x (h.1 x y), fun x y => h'.2.1 x (h.2.1 x y), fun x y => h'.2.2.1 x (h.2.2.1 x y), fun x y => h'.2.2.2.1 x (h.2.2.2.1 x y), fun x y => h'.2.2.2.2 x (h.2.2.2.2 x y)⟩
section
variable {nc nm nr : Nat} {ups : Nat → Int32} {hm na ln : Nat → Nat} {br : Nat → Int32} {op cl nn : Nat → Nat} {fd : Nat → Nat → Option Nat} {tg : Nat → Option Nat} {rk : Nat → Nat} {rc rn : Nat → Int32} {fc : Nat → Int32} {pa : Nat → Option Nat} {dc : Nat → Nat → Option Nat}
variable {ex td : Nat → Nat → Prop} {ph : Nat} {nd md nh lv nd' md' nh' lv' : Int32} {q s : Nat} {qu wt si wt' : Nat → Int32}
theorem sm_FLm {i : Nat} (L : sm_le nd md nh lv wt nd' md' nh' lv' wt') (h : sm_FL op cl nn fd tg nd md lv wt i) : sm_FL op cl nn fd tg nd' md' lv' wt' i :=
  ⟨fun a b c => L.1 _ (h.1 a b c), fun a => L.2.1 _ (h.2.1 a), fun a b => L.2.2.2.2 _ (h.2.2.1 a b), fun a b g hg => L.2.2.2.1 _ (h.2.2.2 a b g hg)⟩
theorem sm_XGm (L : sm_le nd md nh lv wt nd' md nh' lv' wt) (h : sm_XG nc nm nr ups hm na ln br op cl nn fd tg rk rc rn nh lv md wt ex) : sm_XG nc nm nr ups hm na ln br op cl nn fd tg rk rc rn nh' lv' md wt ex := by
  refine ⟨fun c n hc hn hw => ?_, fun c n d g hc hn hw h1 h2 h3 => ?_⟩
  · obtain ⟨a, ⟨g, b, c'⟩, d⟩ := h.1 c n hc hn hw
    exact ⟨a, ⟨g, b, L.2.2.1 _ c'⟩, d⟩
  · exact (h.2 c n d g hc hn hw h1 h2 h3).imp id (fun z => ⟨L.2.2.1 _ z.1, fun y => L.2.2.2.1 _ (z.2 y)⟩)
theorem sm_XHm (L : sm_le nd md nh lv wt nd' md' nh' lv wt') (h : sm_XH ln op cl nn fd tg lv q qu nd md wt td) : sm_XH ln op cl nn fd tg lv q qu nd' md' wt' td := by
  intro m hm'
  exact (h m hm').imp id (fun z k hk => (z k hk).imp id (sm_FLm L))
theorem sm_XAm1 (C : sp_cls nc fc pa ups) {c : Nat} (hc : c < nc) (hM : sm_ML nc nm nr ups hm na ln br op cl nn fd tg rk rc rn 0 c) (h : sm_XA nc nm nr ups hm na ln br op cl nn fd tg rk rc rn nd md nh lv) : sm_XA nc nm nr ups hm na ln br op cl nn fd tg rk rc rn (nd ||| ups c) md nh lv := by
  obtain ⟨a1, a2, a3, a4, a5, a6, a7⟩ := h
  refine ⟨fun x hx => ?_, a2, a3, a4, fun x a hx ha => ?_, fun m hm' => b_orl (a6 m hm'), fun m hm' => b_orl (a7 m hm')⟩
  · rcases b_ori hx with z | z
    · exact a1 x z
    · exact sm_MLc.2.2.2.2.1 c x hc hM z
  · rcases b_ori hx with z | z
    · exact b_orl (a5 x a z ha)
    · exact b_orr ((C.2.2.2.2.1 c x hc z).2 a ha)
/-- a class is named -/
theorem sm_P1 (C : sp_cls nc fc pa ups) {c : Nat} (hc : c < nc) (hM : sm_ML nc nm nr ups hm na ln br op cl nn fd tg rk rc rn 0 c) (h : sm_XI nc nm nr ups hm na ln br op cl nn fd tg rk rc rn ex td ph nd md nh lv q s qu wt si) : sm_XI nc nm nr ups hm na ln br op cl nn fd tg rk rc rn ex td ph (nd ||| ups c) md nh lv q s qu wt si :=
  ⟨sm_XAm1 C hc hM h.1, h.2.1, h.2.2.1, h.2.2.2.1, sm_XHm (nh := nh) (nh' := nh) ⟨fun _ z => b_orl z, fun _ z => z, fun _ z => z, fun _ z => z, fun _ z => z⟩ h.2.2.2.2⟩
theorem sm_L1 {c : Nat} : sm_le nd md nh lv wt (nd ||| ups c) md nh lv wt := ⟨fun _ z => b_orl z, fun _ z => z, fun _ z => z, fun _ z => z, fun _ z => z⟩
theorem sm_L2 {c m : Nat} (hm' : m < 32) : sm_le nd md nh lv wt (nd ||| ups c) md (nh ||| ((1 : Int32) <<< (nI m &&& 31))) lv wt := ⟨fun _ z => b_orl z, fun _ z => z, fun _ z => b_or1o hm' z, fun _ z => z, fun _ z => z⟩
/-- a method is named -/
theorem sm_P2 (C : sp_cls nc fc pa ups) (M : sp_mth nc nm fc hm na ln br dc) {m : Nat} (hm' : m < nm) (hM : sm_ML nc nm nr ups hm na ln br op cl nn fd tg rk rc rn 2 m) (h : sm_XI nc nm nr ups hm na ln br op cl nn fd tg rk rc rn ex td ph nd md nh lv q s qu wt si) :
    sm_XI nc nm nr ups hm na ln br op cl nn fd tg rk rc rn ex td ph (nd ||| ups (hm m)) md (nh ||| ((1 : Int32) <<< (nI m &&& 31))) lv q s qu wt si := by
  have h30 := M.1
  have hh := (M.2.1 m hm').1
  have L : sm_le nd md nh lv wt (nd ||| ups (hm m)) md (nh ||| ((1 : Int32) <<< (nI m &&& 31))) lv wt := sm_L2 (by omega)
  obtain ⟨a1, a2, a3, a4, a5, a6, a7⟩ := sm_XAm1 C hh (sm_MLc.2.2.1 m hm' hM) h.1
  refine ⟨⟨a1, a2, fun x hx => ?_, a4, a5, fun x hx => ?_, a7⟩, h.2.1, h.2.2.1, sm_XGm L h.2.2.2.1, sm_XHm L h.2.2.2.2⟩
  · rcases b_or1i (by omega) hx with z | z
    · exact a3 x z
    · rw [z]; exact hM
  · rcases b_or1i (by omega) hx with z | z
    · exact a6 x z
    · rw [z]; exact b_orr (C.2.2.2.1 _ hh)
/-- a method becomes live -/
theorem sm_P3 (C : sp_cls nc fc pa ups) (M : sp_mth nc nm fc hm na ln br dc) {m : Nat} (hm' : m < nm) (hM : sm_ML nc nm nr ups hm na ln br op cl nn fd tg rk rc rn 3 m) (hn : bt lv m = false) (h : sm_XI nc nm nr ups hm na ln br op cl nn fd tg rk rc rn ex td ph nd md nh lv q s qu wt si) :
    sm_XI nc nm nr ups hm na ln br op cl nn fd tg rk rc rn ex td ph (nd ||| ups (hm m)) md nh (lv ||| ((1 : Int32) <<< (nI m &&& 31))) (q + 1) s (upd qu q (nI m)) wt si := by
  have h30 := M.1
  have h32 : m < 32 := by omega
  have hh := (M.2.1 m hm').1
  have L : sm_le nd md nh lv wt (nd ||| ups (hm m)) md nh (lv ||| ((1 : Int32) <<< (nI m &&& 31))) wt := ⟨fun _ z => b_orl z, fun _ z => z, fun _ z => z, fun _ z => b_or1o h32 z, fun _ z => z⟩
  obtain ⟨a1, a2, a3, a4, a5, a6, a7⟩ := sm_XAm1 C hh (sm_MLc.2.2.1 m hm' (sm_MLc.2.2.2.1 m hm' hM)) h.1
  refine ⟨⟨a1, a2, a3, fun x hx => ?_, a5, a6, fun x hx => ?_⟩, ⟨fun j hj => ?_, ?_⟩, h.2.2.1, sm_XGm L h.2.2.2.1, fun x hx => ?_⟩
  · rcases b_or1i h32 hx with z | z
    · exact a4 x z
    · rw [z]; exact hM
  · rcases b_or1i h32 hx with z | z
    · exact a7 x z
    · rw [z]; exact b_orr (C.2.2.2.1 _ hh)
  · by_cases z : j = q
    · exact ⟨m, hm', by rw [z, pk_us], b_or1s h32⟩
    · obtain ⟨x, x1, x2, x3⟩ := h.2.1.1 j (by omega)
      exact ⟨x, x1, by rw [pk_un z, x2], b_or1o h32 x3⟩
  · have e : cn (fun x => bt (lv ||| ((1 : Int32) <<< (nI m &&& 31))) x = true) 30 = cn (fun x => bt lv x = true ∨ x = m) 30 :=
      cn_eq (fun k _ => ⟨fun z => b_or1i h32 z, fun z => z.elim (fun y => b_or1o h32 y) (fun y => by rw [y]; exact b_or1s h32)⟩)
    rw [e, cn_add (P := fun x => bt lv x = true) (by rw [hn]; decide) (by omega), h.2.1.2]
    omega
  · by_cases z : x = m
    · exact Or.inl ⟨q, by omega, by rw [pk_us, z]⟩
    · rcases b_or1i h32 hx with y | y
      · rcases h.2.2.2.2 x y with ⟨j, j1, j2⟩ | w
        · exact Or.inl ⟨j, by omega, by rw [pk_un (by omega), j2]⟩
        · exact Or.inr (fun k hk => (w k hk).imp id (sm_FLm L))
      · exact absurd y z
theorem sm_q30 (M : sp_mth nc nm fc hm na ln br dc) {m : Nat} (hm' : m < nm) (hn : bt lv m = false) (h : sm_XI nc nm nr ups hm na ln br op cl nn fd tg rk rc rn ex td ph nd md nh lv q s qu wt si) : q < 30 := by
  have h30 := M.1
  have h1 := h.2.1.2
  have h2 : cn (fun x => bt lv x = true) 30 < cn (fun _ => True) 30 := cn_lt (a := m) (by rw [hn]; decide) trivial (fun _ _ _ => trivial) (by omega)
  have h3 := cn_le (fun _ => True) 30
  omega
/-- a class is made -/
theorem sm_P4 {d : Nat} (hd : d < 32) (hM : sm_ML nc nm nr ups hm na ln br op cl nn fd tg rk rc rn 1 d) (h : sm_XI nc nm nr ups hm na ln br op cl nn fd tg rk rc rn (fun _ _ => False) td ph nd md nh lv q s qu wt si) :
    sm_XI nc nm nr ups hm na ln br op cl nn fd tg rk rc rn (fun _ x => x = d) td ph nd (md ||| ((1 : Int32) <<< (nI d &&& 31))) nh lv q s qu wt si := by
  have L : sm_le nd md nh lv wt nd (md ||| ((1 : Int32) <<< (nI d &&& 31))) nh lv wt := ⟨fun _ z => z, fun _ z => b_or1o hd z, fun _ z => z, fun _ z => z, fun _ z => z⟩
  obtain ⟨a1, a2, a3, a4, a5, a6, a7⟩ := h.1
  refine ⟨⟨a1, fun x hx => ?_, a3, a4, a5, a6, a7⟩, h.2.1, h.2.2.1, ⟨h.2.2.2.1.1, fun c n x g hc hn hw h1 h2 h3 => ?_⟩, sm_XHm L h.2.2.2.2⟩
  · rcases b_or1i hd hx with z | z
    · exact a2 x z
    · rw [z]; exact hM
  · rcases b_or1i hd h1 with z | z
    · exact (h.2.2.2.1.2 c n x g hc hn hw z h2 h3).elim (fun y => y.elim) Or.inr
    · exact Or.inl z
/-- a call of a name in a class waits for classes -/
theorem sm_P5 {c n g : Nat} (hc : c < nc) (h10 : nc ≤ 10) (hn : n < 10) (hg : fd c n = some g) (hng : bt nh g = true) (hw : wt (10 * c + n) = 0)
    (hS : ∀ d g, d < nc → sm_ML nc nm nr ups hm na ln br op cl nn fd tg rk rc rn 1 d → bt (ups d) c = true → fd d n = some g → sm_ML nc nm nr ups hm na ln br op cl nn fd tg rk rc rn 2 g ∧ (br g = 0 → sm_ML nc nm nr ups hm na ln br op cl nn fd tg rk rc rn 3 g))
    (h : sm_XI nc nm nr ups hm na ln br op cl nn fd tg rk rc rn (fun _ _ => False) td ph nd md nh lv q s qu wt si) :
    sm_XI nc nm nr ups hm na ln br op cl nn fd tg rk rc rn (fun k d => k = 10 * c + n ∧ 0 ≤ d) td ph nd md nh lv q (s + 1) qu (upd wt (10 * c + n) 1) (upd si s (nI (10 * c + n))) := by
  have h1 : ∀ k, ¬ upd wt (10 * c + n) 1 k = 0 ↔ (¬ wt k = 0 ∨ k = 10 * c + n) := by
    intro k
    by_cases z : k = 10 * c + n
    · subst z; rw [pk_us]; simp [hw]
    · rw [pk_un z]; simp [z]
  have L : sm_le nd md nh lv wt nd md nh lv (upd wt (10 * c + n) 1) := ⟨fun _ z => z, fun _ z => z, fun _ z => z, fun _ z => z, fun k z => (h1 k).mpr (Or.inl z)⟩
  refine ⟨h.1, h.2.1, ⟨?_, fun j hj => ?_, fun k hk hk2 => ?_⟩, ⟨fun c' n' hc' hn' hw' => ?_, fun c' n' d g' hc' hn' hw' h2 h3 h4 => ?_⟩, sm_XHm L h.2.2.2.2⟩
  · rw [cn_eq (fun k _ => h1 k), cn_add (P := fun k => ¬ wt k = 0) (by simp [hw]) (by omega), h.2.2.1.1]
  · by_cases z : j = s
    · exact ⟨10 * c + n, by omega, by rw [z, pk_us], (h1 _).mpr (Or.inr rfl)⟩
    · obtain ⟨k, k1, k2, k3⟩ := h.2.2.1.2.1 j (by omega)
      exact ⟨k, k1, by rw [pk_un z, k2], (h1 k).mpr (Or.inl k3)⟩
  · rcases (h1 k).mp hk2 with z | z
    · obtain ⟨j, j1, j2⟩ := h.2.2.1.2.2 k hk z
      exact ⟨j, by omega, by rw [pk_un (by omega), j2]⟩
    · exact ⟨s, by omega, by rw [pk_us, z]⟩
  · rcases (h1 _).mp hw' with z | z
    · exact h.2.2.2.1.1 c' n' hc' hn' z
    · have e1 : c' = c := by omega
      have e2 : n' = n := by omega
      subst e1; subst e2
      exact ⟨hc, ⟨g, hg, hng⟩, hS⟩
  · rcases (h1 _).mp hw' with z | z
    · exact (h.2.2.2.1.2 c' n' d g' hc' hn' z h2 h3 h4).elim (fun y => y.elim) Or.inr
    · exact Or.inl ⟨z, by omega⟩
theorem sm_s100 {k : Nat} (hk : k < 100) (hw : wt k = 0) (h : sm_XI nc nm nr ups hm na ln br op cl nn fd tg rk rc rn ex td ph nd md nh lv q s qu wt si) : s < 100 := by
  have h1 := h.2.2.1.1
  have h2 : cn (fun x => ¬ wt x = 0) 100 < cn (fun _ => True) 100 := cn_lt (a := k) (fun z => z hw) trivial (fun _ _ _ => trivial) hk
  have h3 := cn_le (fun _ => True) 100
  omega
theorem sm_P6 {m : Nat} (hq : qu q = nI m) (hm' : m < nm) (h30 : nm ≤ 30) (h : sm_XI nc nm nr ups hm na ln br op cl nn fd tg rk rc rn ex (fun _ _ => False) ph nd md nh lv (q + 1) s qu wt si) :
    sm_XI nc nm nr ups hm na ln br op cl nn fd tg rk rc rn ex (fun x k => x = m ∧ 0 ≤ k) (ph + 1) nd md nh lv q s qu wt si := by
  refine ⟨h.1, ⟨fun j hj => h.2.1.1 j (by omega), by rw [h.2.1.2]; omega⟩, h.2.2.1, h.2.2.2.1, fun x hx => ?_⟩
  by_cases z : x = m
  · exact Or.inr (fun k _ => Or.inl ⟨z, by omega⟩)
  · rcases h.2.2.2.2 x hx with ⟨j, j1, j2⟩ | w
    · refine Or.inl ⟨j, ?_, j2⟩
      have : j ≠ q := fun y => by
        rw [y, hq] at j2
        have hx32 := b_lt hx
        exact z (sd_inj (by omega) (by omega) j2).symm
      omega
    · exact Or.inr (fun k hk => (w k hk).elim (fun y => y.elim) Or.inr)
theorem sm_P7 {ex' : Nat → Nat → Prop} (h : sm_XI nc nm nr ups hm na ln br op cl nn fd tg rk rc rn ex td ph nd md nh lv q s qu wt si)
    (he : ∀ c n d g, c < 10 → n < 10 → ¬ wt (10 * c + n) = 0 → bt md d = true → bt (ups d) c = true → fd d n = some g → ex (10 * c + n) d → ex' (10 * c + n) d ∨ (bt nh g = true ∧ (br g = 0 → bt lv g = true))) :
    sm_XI nc nm nr ups hm na ln br op cl nn fd tg rk rc rn ex' td ph nd md nh lv q s qu wt si :=
  ⟨h.1, h.2.1, h.2.2.1, ⟨h.2.2.2.1.1, fun c n d g hc hn hw h1 h2 h3 => (h.2.2.2.1.2 c n d g hc hn hw h1 h2 h3).elim (he c n d g hc hn hw h1 h2 h3) Or.inr⟩, h.2.2.2.2⟩
theorem sm_P8 {td' : Nat → Nat → Prop} (h : sm_XI nc nm nr ups hm na ln br op cl nn fd tg rk rc rn ex td ph nd md nh lv q s qu wt si)
    (he : ∀ m k, bt lv m = true → k < ln m → td m k → td' m k ∨ sm_FL op cl nn fd tg nd md lv wt (6 * m + k)) :
    sm_XI nc nm nr ups hm na ln br op cl nn fd tg rk rc rn ex td' ph nd md nh lv q s qu wt si :=
  ⟨h.1, h.2.1, h.2.2.1, h.2.2.2.1, fun m hm' => (h.2.2.2.2 m hm').imp id (fun z k hk => (z k hk).elim (he m k hm' hk) Or.inr)⟩
/-- the rules that keep are followed -/
def sm_RU (nc nm nr : Nat) (hm na : Nat → Nat) (br : Nat → Int32) (rk : Nat → Nat) (rc rn : Nat → Int32) (nd nh lv : Int32) : Prop :=
  (∀ r c, r < nr → rk r = 0 → c < nc → bt (rc r) c = true → bt nd c = true) ∧
  (∀ r m, r < nr → rk r = 0 → m < nm → bt (rc r) (hm m) = true → bt (rn r) (na m) = true → bt nh m = true ∧ (br m = 0 → bt lv m = true))
theorem sm_RUm (L : sm_le nd md nh lv wt nd' md' nh' lv' wt') (h : sm_RU nc nm nr hm na br rk rc rn nd nh lv) : sm_RU nc nm nr hm na br rk rc rn nd' nh' lv' :=
  ⟨fun r c a b d e => L.1 _ (h.1 r c a b d e), fun r m a b d e f => ⟨L.2.2.1 _ (h.2 r m a b d e f).1, fun z => L.2.2.2.1 _ ((h.2 r m a b d e f).2 z)⟩⟩
/-- the sets of the component, as kinds -/
def sm_QX (nd md nh lv : Int32) (j x : Nat) : Prop :=
  (j = 0 → bt nd x = true) ∧ (j = 1 → bt md x = true) ∧ (j = 2 → bt lv x = true ∨ bt nh x = true) ∧ (j = 3 → bt lv x = true)
theorem sm_end (C : sp_cls nc fc pa ups) (M : sp_mth nc nm fc hm na ln br dc) (N : ∀ m k, m < nm → k < ln m → op (6 * m + k) = 2 ∨ op (6 * m + k) = 3 → nn (6 * m + k) < 10) (W : sp_ok nc nm fc br ln op cl nn fd) (h : sm_XI nc nm nr ups hm na ln br op cl nn fd tg rk rc rn (fun _ _ => False) (fun _ _ => False) ph nd md nh lv 0 s qu wt si) (R : sm_RU nc nm nr hm na br rk rc rn nd nh lv) : sm_cl nc nm nr ups hm na ln br op cl nn fd tg rk rc rn (sm_QX nd md nh lv) := by
  obtain ⟨a1, a2, a3, a4, a5, a6, a7⟩ := h.1
  have h10 := C.1
  refine ⟨?_, ?_, ?_, ?_, ?_, ?_⟩
  · intro r c x1 x2 x3 x4
    exact ⟨fun _ => R.1 r c x1 x2 x3 x4, fun z => by omega, fun z => by omega, fun z => by omega⟩
  · intro r m x1 x2 x3 x4 x5
    have y := R.2 r m x1 x2 x3 x4 x5
    exact ⟨⟨fun z => by omega, fun z => by omega, fun _ => Or.inr y.1, fun z => by omega⟩, fun hb => ⟨fun z => by omega, fun z => by omega, fun _ => Or.inl (y.2 hb), fun _ => y.2 hb⟩⟩
  · intro m x1 x2
    exact ⟨fun _ => (x2.2.2.1 rfl).elim (a7 m) (a6 m), fun z => by omega, fun z => by omega, fun z => by omega⟩
  · intro m x1 x2
    exact ⟨fun z => by omega, fun z => by omega, fun _ => Or.inl (x2.2.2.2 rfl), fun z => by omega⟩
  · intro c a x1 x2 x3
    exact ⟨fun _ => a5 c a (x2.1 rfl) x3, fun z => by omega, fun z => by omega, fun z => by omega⟩
  · intro m k x1 x2 x3
    have hF : sm_FL op cl nn fd tg nd md lv wt (6 * m + k) := by
      rcases h.2.2.2.2 m (x2.2.2.2 rfl) with ⟨j, j1, _⟩ | w
      · omega
      · exact (w k x3).elim (fun y => y.elim) id
    obtain ⟨f1, f2, f3, f4⟩ := hF
    refine ⟨?_, ?_, ?_, ?_, ?_⟩
    · intro b1 b2 b3
      exact ⟨fun _ => f1 b1 b2 b3, fun z => by omega, fun z => by omega, fun z => by omega⟩
    · intro b1
      exact ⟨fun z => by omega, fun _ => f2 b1, fun z => by omega, fun z => by omega⟩
    · intro b1 b2 g hg
      have hc := sp_okc W x1 x3 (by omega) (by omega)
      obtain ⟨_, ⟨g', e1, e2⟩, _⟩ := h.2.2.2.1.1 _ _ (by omega) (N m k x1 x3 (Or.inl b1)) (f3 b1 b2)
      rw [hg] at e1
      cases e1
      exact ⟨fun z => by omega, fun z => by omega, fun _ => Or.inr e2, fun z => by omega⟩
    · intro b1 b2 g hg
      have e := f4 b1 b2 g hg
      exact ⟨fun z => by omega, fun z => by omega, fun _ => Or.inl e, fun _ => e⟩
    · intro b1 b2 d g hd h1 h2 h3
      have hc := sp_okc W x1 x3 (by omega) (by omega)
      rcases h.2.2.2.1.2 _ _ d g (by omega) (N m k x1 x3 (Or.inl b1)) (f3 b1 b2) (h1.2.1 rfl) h2 h3 with y | y
      · exact y.elim
      · exact ⟨⟨fun z => by omega, fun z => by omega, fun _ => Or.inr y.1, fun z => by omega⟩, fun hb => ⟨fun z => by omega, fun z => by omega, fun _ => Or.inl (y.2 hb), fun _ => y.2 hb⟩⟩
end
end
section
/-! the component's marking: its walks -/
section
variable {nc nm nr : Nat} {pa : Nat → Option Nat} {hm na ln op rk cl nn : Nat → Nat} {fc ups br ic ii fs sc rc rn : Nat → Int32} {dc fd : Nat → Nat → Option Nat}
variable {xnd xmd xnh xlv xq xs xbt xft xdp xst xss xpt xtr xsm : Int32} {xfs xdc xfd xqu xwt xsi xtg xnw xfa xsg xnn xtk xrl bop bcl bin bsk bme bli bou xnf xfm xfl xfh xou xem xel : Nat → Int32}
variable {ypl ynd ymd ynh ylv ybt ydp yst yot yen : Int32} {yow yma yil ynu ynn yfa yvm yvl yvh ypu : Nat → Int32}
variable {tg : Nat → Option Nat} {ex td : Nat → Nat → Prop} {ph q s : Nat}
theorem sx_nameClass {post : SX → Prop} {c : Nat} (hc : c < 10) (p : post ((nI nc), (nI nm), (nI nr), (xnd ||| ups c), xmd, xnh, xlv, xq, xs, xbt, xft, xdp, xst, xss, xpt, xtr, xsm, fc, (oF pa), xfs, ups, (nF hm), (nF na), br, (nF ln), (nF op), ic, ii, xdc, xfd, (nF rk), rc, rn, xqu, xwt, xsi, xtg, xnw, xfa, xsg, xnn, xtk, xrl, bop, bcl, bin, bsk, bme, bli, bou, xnf, xfm, xfl, xfh, xou, xem, xel)) : wpX_nameClass post ((nI nc), (nI nm), (nI nr), xnd, xmd, xnh, xlv, xq, xs, xbt, xft, xdp, xst, xss, xpt, xtr, xsm, fc, (oF pa), xfs, ups, (nF hm), (nF na), br, (nF ln), (nF op), ic, ii, xdc, xfd, (nF rk), rc, rn, xqu, xwt, xsi, xtg, xnw, xfa, xsg, xnn, xtk, xrl, bop, bcl, bin, bsk, bme, bli, bou, xnf, xfm, xfl, xfh, xou, xem, xel) (nI c) := by
  unfold wpX_nameClass
  dsimp only
  rw [nI_clamp (by omega)]
  exact ⟨vp_in_nI hc (by decide), nm_e p⟩
theorem sx_nameMethod {post : SX → Prop} {m : Nat} (M : sp_mth nc nm fc hm na ln br dc) (h10 : nc ≤ 10) (hm' : m < nm) (p : post ((nI nc), (nI nm), (nI nr), (xnd ||| ups (hm m)), xmd, (xnh ||| ((1 : Int32) <<< (nI m &&& 31))), xlv, xq, xs, xbt, xft, xdp, xst, xss, xpt, xtr, xsm, fc, (oF pa), xfs, ups, (nF hm), (nF na), br, (nF ln), (nF op), ic, ii, xdc, xfd, (nF rk), rc, rn, xqu, xwt, xsi, xtg, xnw, xfa, xsg, xnn, xtk, xrl, bop, bcl, bin, bsk, bme, bli, bou, xnf, xfm, xfl, xfh, xou, xem, xel)) : wpX_nameMethod post ((nI nc), (nI nm), (nI nr), xnd, xmd, xnh, xlv, xq, xs, xbt, xft, xdp, xst, xss, xpt, xtr, xsm, fc, (oF pa), xfs, ups, (nF hm), (nF na), br, (nF ln), (nF op), ic, ii, xdc, xfd, (nF rk), rc, rn, xqu, xwt, xsi, xtg, xnw, xfa, xsg, xnn, xtk, xrl, bop, bcl, bin, bsk, bme, bli, bou, xnf, xfm, xfl, xfh, xou, xem, xel) (nI m) := by
  have h30 := M.1
  have hh := (M.2.1 m hm').1
  unfold wpX_nameMethod
  dsimp only
  rw [nI_clamp (by omega), nF_a]
  exact nm_e ⟨vp_in_nI (by omega) (by decide), sx_nameClass (by omega) p⟩
theorem sx_liven {post : SX → Prop} {m : Nat} (C : sp_cls nc fc pa ups) (M : sp_mth nc nm fc hm na ln br dc) (hm' : m < nm) (hM : sm_ML nc nm nr ups hm na ln br op cl nn fd tg rk rc rn 3 m) (I : sm_XI nc nm nr ups hm na ln br op cl nn fd tg rk rc rn ex td ph xnd xmd xnh xlv q s xqu xwt xsi)
    (K : ∀ (nd' lv' : Int32) (q' : Nat) (qu' : Nat → Int32), sm_XI nc nm nr ups hm na ln br op cl nn fd tg rk rc rn ex td ph nd' xmd xnh lv' q' s qu' xwt xsi → sm_le xnd xmd xnh xlv xwt nd' xmd xnh lv' xwt → bt lv' m = true → post ((nI nc), (nI nm), (nI nr), nd', xmd, xnh, lv', (nI q'), (nI s), xbt, xft, xdp, xst, xss, xpt, xtr, xsm, fc, (oF pa), xfs, ups, (nF hm), (nF na), br, (nF ln), (nF op), ic, ii, xdc, xfd, (nF rk), rc, rn, qu', xwt, xsi, xtg, xnw, xfa, xsg, xnn, xtk, xrl, bop, bcl, bin, bsk, bme, bli, bou, xnf, xfm, xfl, xfh, xou, xem, xel)) : wpX_liven post ((nI nc), (nI nm), (nI nr), xnd, xmd, xnh, xlv, (nI q), (nI s), xbt, xft, xdp, xst, xss, xpt, xtr, xsm, fc, (oF pa), xfs, ups, (nF hm), (nF na), br, (nF ln), (nF op), ic, ii, xdc, xfd, (nF rk), rc, rn, xqu, xwt, xsi, xtg, xnw, xfa, xsg, xnn, xtk, xrl, bop, bcl, bin, bsk, bme, bli, bou, xnf, xfm, xfl, xfh, xou, xem, xel) (nI m) := by
  have h30 := M.1
  have h10 := C.1
  have hh := (M.2.1 m hm').1
  unfold wpX_liven
  dsimp only
  refine xh_b (by omega) (fun hb => ?_) (fun hb => K _ _ _ _ I sm_le_r hb)
  have hq := sm_q30 M hm' hb I
  rw [nI_clamp (n := q) (by omega), nI_clamp (n := m) (by omega), nF_a, sd_vbb (by omega)]
  refine nm_e (nm_r (nI_1 q) ⟨vp_in_nI hq (by decide), nm_e ⟨vp_in_nI (by omega) (by decide), sx_nameClass (by omega) ?_⟩⟩)
  exact K _ _ _ _ (sm_P3 C M hm' hM hb I) ⟨fun _ z => b_orl z, fun _ z => z, fun _ z => z, fun _ z => b_or1o (by omega) z, fun _ z => z⟩ (b_or1s (by omega))
theorem sx_answer {post : SX → Prop} {d n g : Nat} (C : sp_cls nc fc pa ups) (M : sp_mth nc nm fc hm na ln br dc) (A : ∀ a b, a < nc → b < 10 → xfd (10 * a + b) = oI (fd a b)) (hd : d < nc) (hn : n < 10) (hg : fd d n = some g) (hgm : g < nm) (h2 : sm_ML nc nm nr ups hm na ln br op cl nn fd tg rk rc rn 2 g) (h3 : br g = 0 → sm_ML nc nm nr ups hm na ln br op cl nn fd tg rk rc rn 3 g) (I : sm_XI nc nm nr ups hm na ln br op cl nn fd tg rk rc rn ex td ph xnd xmd xnh xlv q s xqu xwt xsi)
    (K : ∀ (nd' nh' lv' : Int32) (q' : Nat) (qu' : Nat → Int32), sm_XI nc nm nr ups hm na ln br op cl nn fd tg rk rc rn ex td ph nd' xmd nh' lv' q' s qu' xwt xsi → sm_le xnd xmd xnh xlv xwt nd' xmd nh' lv' xwt → bt nh' g = true → (br g = 0 → bt lv' g = true) → post ((nI nc), (nI nm), (nI nr), nd', xmd, nh', lv', (nI q'), (nI s), xbt, xft, xdp, xst, xss, xpt, xtr, xsm, fc, (oF pa), xfs, ups, (nF hm), (nF na), br, (nF ln), (nF op), ic, ii, xdc, xfd, (nF rk), rc, rn, qu', xwt, xsi, xtg, xnw, xfa, xsg, xnn, xtk, xrl, bop, bcl, bin, bsk, bme, bli, bou, xnf, xfm, xfl, xfh, xou, xem, xel)) : wpX_answer post ((nI nc), (nI nm), (nI nr), xnd, xmd, xnh, xlv, (nI q), (nI s), xbt, xft, xdp, xst, xss, xpt, xtr, xsm, fc, (oF pa), xfs, ups, (nF hm), (nF na), br, (nF ln), (nF op), ic, ii, xdc, xfd, (nF rk), rc, rn, xqu, xwt, xsi, xtg, xnw, xfa, xsg, xnn, xtk, xrl, bop, bcl, bin, bsk, bme, bli, bou, xnf, xfm, xfl, xfh, xou, xem, xel) (nI d) (nI n) := by
  have h30 := M.1
  have h10 := C.1
  unfold wpX_answer
  dsimp only
  refine sx_found h10 A hd hn ?_
  rw [hg]
  refine br_t (nI_pos' (by omega)) (sx_nameMethod M h10 hgm ?_)
  have I2 := sm_P2 C M hgm h2 I
  have L2 : sm_le xnd xmd xnh xlv xwt (xnd ||| ups (hm g)) xmd (xnh ||| ((1 : Int32) <<< (nI g &&& 31))) xlv xwt := sm_L2 (by omega)
  rw [oI_s, nI_clamp (by omega)]
  refine And.intro (vp_in_nI (by omega) (by decide)) (br_c (fun z => ?_) (fun z => ?_))
  · exact sx_liven C M hgm (h3 z) I2 (fun nd' lv' q' qu' I' L' e => K _ _ _ _ _ I' (sm_le_t L2 L') (L'.2.2.1 _ (b_or1s (by omega))) (fun _ => e))
  · exact K _ _ _ _ _ I2 L2 (b_or1s (by omega)) (fun y => absurd y z)
theorem sx_make26 {post : SX → Prop} {d : Nat} (C : sp_cls nc fc pa ups) (M : sp_mth nc nm fc hm na ln br dc) (F : sp_fd nc pa fc ups hm dc fd) (A : ∀ a b, a < nc → b < 10 → xfd (10 * a + b) = oI (fd a b)) (hd : d < nc) (hM : sm_ML nc nm nr ups hm na ln br op cl nn fd tg rk rc rn 1 d) {nd0 nh0 lv0 : Int32} (hs : s ≤ 100)
    (K : ∀ (nd' nh' lv' : Int32) (q' : Nat) (qu' : Nat → Int32), sm_XI nc nm nr ups hm na ln br op cl nn fd tg rk rc rn (fun _ _ => False) td ph nd' xmd nh' lv' q' s qu' xwt xsi → sm_le nd0 xmd nh0 lv0 xwt nd' xmd nh' lv' xwt → post ((nI nc), (nI nm), (nI nr), nd', xmd, nh', lv', (nI q'), (nI s), xbt, xft, xdp, xst, xss, xpt, xtr, xsm, fc, (oF pa), xfs, ups, (nF hm), (nF na), br, (nF ln), (nF op), ic, ii, xdc, xfd, (nF rk), rc, rn, qu', xwt, xsi, xtg, xnw, xfa, xsg, xnn, xtk, xrl, bop, bcl, bin, bsk, bme, bli, bou, xnf, xfm, xfl, xfh, xou, xem, xel)) :
    ∀ fuel i (xnd xnh xlv : Int32) (q : Nat) (xqu : Nat → Int32), i ≤ s → s - i < fuel → sm_XI nc nm nr ups hm na ln br op cl nn fd tg rk rc rn (fun k x => x = d ∧ ∃ j, i ≤ j ∧ j < s ∧ xsi j = nI k) td ph xnd xmd xnh xlv q s xqu xwt xsi → sm_le nd0 xmd nh0 lv0 xwt xnd xmd xnh xlv xwt → wX_make_26 post (nI d) fuel (nI i) (nI nc) (nI nm) (nI nr) xnd xmd xnh xlv (nI q) (nI s) xbt xft xdp xst xss xpt xtr xsm fc (oF pa) xfs ups (nF hm) (nF na) br (nF ln) (nF op) ic ii xdc xfd (nF rk) rc rn xqu xwt xsi xtg xnw xfa xsg xnn xtk xrl bop bcl bin bsk bme bli bou xnf xfm xfl xfh xou xem xel := by
  intro fuel
  induction fuel with
  | zero => intro i _ _ _ _ _ _ h; omega
  | succ f ih =>
    intro i xnd xnh xlv q xqu hi hf I L
    have h30 := M.1
    have h10 := C.1
    rw [wX_make_26]
    refine pk_le s i (fun h => K _ _ _ _ _ (sm_P7 I ?_) L) (fun h => ?_)
    · rintro c n x g _ _ _ _ _ _ ⟨_, j, j1, j2, _⟩
      omega
    · obtain ⟨k, k1, k2, k3⟩ := I.2.2.1.2.1 i h
      have ek : 10 * (k / 10) + k % 10 = k := by omega
      obtain ⟨g1, ⟨g0, g2, g3⟩, g4⟩ := I.2.2.2.1.1 (k / 10) (k % 10) (by omega) (by omega) (by rw [ek]; exact k3)
      rw [nI_clamp (n := i) (by omega), k2, sd_r10 (by omega), sd_d10 (by omega), nI_clamp (n := d) (by omega)]
      refine ⟨vp_in_nI (by omega) (by decide), vp_in_nI (by omega) (by decide), sd_100, xh_b (by omega) (fun hb => nm_r (nI_1 i) (ih (i + 1) _ _ _ _ _ (by omega) (by omega) (sm_P7 I ?_) L)) (fun hb => ⟨vp_in_nI (by omega) (by decide), sd_100, ?_⟩)⟩
      · rintro c n x g hc hn hw h1 h2 h3 ⟨e, j, j1, j2, j3⟩
        refine Or.inl ⟨e, j, ?_, j2, j3⟩
        have : j ≠ i := fun y => by
          rw [y, k2] at j3
          have := sd_inj (by omega) (by omega) j3
          have ec : k / 10 = c := by omega
          rw [e, ← ec, hb] at h2
          cases h2
        omega
      · obtain ⟨g, hg⟩ := sp_below C M F hd hb g2
        have hgm := (sp_sound C M F d _ g hd hg).1
        obtain ⟨m2, m3⟩ := g4 d g hd hM hb hg
        refine sx_answer C M A hd (by omega) hg hgm m2 m3 I (fun nd' nh' lv' q' qu' I' L' e1 e2 => nm_r (nI_1 i) (ih (i + 1) _ _ _ _ _ (by omega) (by omega) (sm_P7 I' ?_) (sm_le_t L L')))
        rintro c n x y hc hn hw h1 h2 h3 ⟨e, j, j1, j2, j3⟩
        by_cases z : j = i
        · refine Or.inr ?_
          rw [z, k2] at j3
          have := sd_inj (by omega) (by omega) j3
          have ec : n = k % 10 := by omega
          rw [e, ec, hg] at h3
          cases h3
          exact ⟨e1, e2⟩
        · exact Or.inl ⟨e, j, by omega, j2, j3⟩
theorem sx_make {post : SX → Prop} {d : Nat} (C : sp_cls nc fc pa ups) (M : sp_mth nc nm fc hm na ln br dc) (F : sp_fd nc pa fc ups hm dc fd) (A : ∀ a b, a < nc → b < 10 → xfd (10 * a + b) = oI (fd a b)) (hd : d < nc) (hM : sm_ML nc nm nr ups hm na ln br op cl nn fd tg rk rc rn 1 d) (I : sm_XI nc nm nr ups hm na ln br op cl nn fd tg rk rc rn (fun _ _ => False) td ph xnd xmd xnh xlv q s xqu xwt xsi)
    (K : ∀ (nd' md' nh' lv' : Int32) (q' : Nat) (qu' : Nat → Int32), sm_XI nc nm nr ups hm na ln br op cl nn fd tg rk rc rn (fun _ _ => False) td ph nd' md' nh' lv' q' s qu' xwt xsi → sm_le xnd xmd xnh xlv xwt nd' md' nh' lv' xwt → bt md' d = true → post ((nI nc), (nI nm), (nI nr), nd', md', nh', lv', (nI q'), (nI s), xbt, xft, xdp, xst, xss, xpt, xtr, xsm, fc, (oF pa), xfs, ups, (nF hm), (nF na), br, (nF ln), (nF op), ic, ii, xdc, xfd, (nF rk), rc, rn, qu', xwt, xsi, xtg, xnw, xfa, xsg, xnn, xtk, xrl, bop, bcl, bin, bsk, bme, bli, bou, xnf, xfm, xfl, xfh, xou, xem, xel)) : wpX_make post ((nI nc), (nI nm), (nI nr), xnd, xmd, xnh, xlv, (nI q), (nI s), xbt, xft, xdp, xst, xss, xpt, xtr, xsm, fc, (oF pa), xfs, ups, (nF hm), (nF na), br, (nF ln), (nF op), ic, ii, xdc, xfd, (nF rk), rc, rn, xqu, xwt, xsi, xtg, xnw, xfa, xsg, xnn, xtk, xrl, bop, bcl, bin, bsk, bme, bli, bou, xnf, xfm, xfl, xfh, xou, xem, xel) (nI d) := by
  have h10 := C.1
  unfold wpX_make
  dsimp only
  refine xh_b (by omega) (fun hb => ?_) (fun hb => K _ _ _ _ _ _ I sm_le_r hb)
  refine nm_e ⟨s + 1, ?_⟩
  have I4 := sm_P4 (by omega) hM I
  have hs : s ≤ 100 := by rw [← I.2.2.1.1]; exact cn_le _ _
  have L4 : sm_le xnd xmd xnh xlv xwt xnd (xmd ||| ((1 : Int32) <<< (nI d &&& 31))) xnh xlv xwt := ⟨fun _ z => z, fun _ z => b_or1o (by omega) z, fun _ z => z, fun _ z => z, fun _ z => z⟩
  rw [← nI_0]
  refine sx_make26 C M F A hd hM hs (fun nd' nh' lv' q' qu' I' L' => K _ _ _ _ _ _ I' (sm_le_t L4 L') (b_or1s (by omega))) (s + 1) 0 _ _ _ _ _ (by omega) (by omega) (sm_P7 I4 ?_) sm_le_r
  intro c n x g hc hn hw h1 h2 h3 e
  obtain ⟨j, j1, j2⟩ := I.2.2.1.2.2 (10 * c + n) (by omega) hw
  exact Or.inl ⟨e, j, by omega, j1, j2⟩
theorem sx_reach55 {post : SX → Prop} {c n : Nat} (C : sp_cls nc fc pa ups) (M : sp_mth nc nm fc hm na ln br dc) (F : sp_fd nc pa fc ups hm dc fd) (W : sp_ok nc nm fc br ln op cl nn fd) (A : ∀ a b, a < nc → b < 10 → xfd (10 * a + b) = oI (fd a b)) (hc : c < nc) (hn : n < 10) (hw : ¬ xwt (10 * c + n) = 0) {nd0 nh0 lv0 : Int32}
    (K : ∀ (nd' nh' lv' : Int32) (q' : Nat) (qu' : Nat → Int32), sm_XI nc nm nr ups hm na ln br op cl nn fd tg rk rc rn (fun _ _ => False) td ph nd' xmd nh' lv' q' s qu' xwt xsi → sm_le nd0 xmd nh0 lv0 xwt nd' xmd nh' lv' xwt → post ((nI nc), (nI nm), (nI nr), nd', xmd, nh', lv', (nI q'), (nI s), xbt, xft, xdp, xst, xss, xpt, xtr, xsm, fc, (oF pa), xfs, ups, (nF hm), (nF na), br, (nF ln), (nF op), ic, ii, xdc, xfd, (nF rk), rc, rn, qu', xwt, xsi, xtg, xnw, xfa, xsg, xnn, xtk, xrl, bop, bcl, bin, bsk, bme, bli, bou, xnf, xfm, xfl, xfh, xou, xem, xel)) :
    ∀ fuel i (xnd xnh xlv : Int32) (q : Nat) (xqu : Nat → Int32), i ≤ nc → nc - i < fuel → sm_XI nc nm nr ups hm na ln br op cl nn fd tg rk rc rn (fun k x => k = 10 * c + n ∧ i ≤ x) td ph xnd xmd xnh xlv q s xqu xwt xsi → sm_le nd0 xmd nh0 lv0 xwt xnd xmd xnh xlv xwt → wX_reach_55 post (nI c) (nI n) fuel (nI i) (nI nc) (nI nm) (nI nr) xnd xmd xnh xlv (nI q) (nI s) xbt xft xdp xst xss xpt xtr xsm fc (oF pa) xfs ups (nF hm) (nF na) br (nF ln) (nF op) ic ii xdc xfd (nF rk) rc rn xqu xwt xsi xtg xnw xfa xsg xnn xtk xrl bop bcl bin bsk bme bli bou xnf xfm xfl xfh xou xem xel := by
  intro fuel
  induction fuel with
  | zero => intro i _ _ _ _ _ _ h; omega
  | succ f ih =>
    intro i xnd xnh xlv q xqu hi hf I L
    have h30 := M.1
    have h10 := C.1
    obtain ⟨g1, ⟨g0, g2, g3⟩, g4⟩ := I.2.2.2.1.1 c n (by omega) hn hw
    rw [wX_reach_55]
    refine pk_le nc i (fun h => K _ _ _ _ _ (sm_P7 I ?_) L) (fun h => ?_)
    · rintro c' n' x g _ _ _ h1 h2 _ ⟨e, hx⟩
      have := (sm_rng C M F W (I.1.2.1 x h1)).1 (Or.inr rfl)
      omega
    · have hskip : (bt xmd i = true → bt (ups i) c = true → False) → ∀ y, y = nI i + 1 → wX_reach_55 post (nI c) (nI n) f y (nI nc) (nI nm) (nI nr) xnd xmd xnh xlv (nI q) (nI s) xbt xft xdp xst xss xpt xtr xsm fc (oF pa) xfs ups (nF hm) (nF na) br (nF ln) (nF op) ic ii xdc xfd (nF rk) rc rn xqu xwt xsi xtg xnw xfa xsg xnn xtk xrl bop bcl bin bsk bme bli bou xnf xfm xfl xfh xou xem xel := fun hne =>
        nm_r (nI_1 i) (ih (i + 1) _ _ _ _ _ (by omega) (by omega) (sm_P7 I (by
          rintro c' n' x g hc' hn' _ h1 h2 _ ⟨e, hx⟩
          refine Or.inl ⟨e, ?_⟩
          have : x ≠ i := fun y => by
            have ec : c' = c := by omega
            rw [y] at h1 h2; rw [ec] at h2
            exact hne h1 h2
          omega)) L)
      rw [nI_clamp (n := i) (by omega)]
      refine xh_b (by omega) (fun hb => hskip (fun z => by rw [hb] at z; cases z)) (fun hb => ⟨vp_in_nI (by omega) (by decide), xh_b (by omega) (fun hb2 => hskip (fun _ z => by rw [hb2] at z; cases z)) (fun hb2 => ?_)⟩)
      obtain ⟨g, hg⟩ := sp_below C M F h hb2 g2
      have hgm := (sp_sound C M F i _ g h hg).1
      obtain ⟨m2, m3⟩ := g4 i g h (I.1.2.1 i hb) hb2 hg
      refine sx_answer C M A h hn hg hgm m2 m3 I (fun nd' nh' lv' q' qu' I' L' e1 e2 => nm_r (nI_1 i) (ih (i + 1) _ _ _ _ _ (by omega) (by omega) (sm_P7 I' ?_) (sm_le_t L L')))
      rintro c' n' x y hc' hn' _ h1 h2 h3 ⟨e, hx⟩
      by_cases z : x = i
      · refine Or.inr ?_
        have en : n' = n := by omega
        rw [z, en, hg] at h3
        cases h3
        exact ⟨e1, e2⟩
      · exact Or.inl ⟨e, by omega⟩
end
end
section
/-! the component's marking: calls, instructions, roots, the worklist -/
section
variable {nc nm nr : Nat} {pa : Nat → Option Nat} {hm na ln op rk cl nn : Nat → Nat} {fc ups br ic ii fs sc rc rn : Nat → Int32} {dc fd : Nat → Nat → Option Nat}
variable {xnd xmd xnh xlv xq xs xbt xft xdp xst xss xpt xtr xsm : Int32} {xfs xdc xfd xqu xwt xsi xtg xnw xfa xsg xnn xtk xrl bop bcl bin bsk bme bli bou xnf xfm xfl xfh xou xem xel : Nat → Int32}
variable {ypl ynd ymd ynh ylv ybt ydp yst yot yen : Int32} {yow yma yil ynu ynn yfa yvm yvl yvh ypu : Nat → Int32}
variable {tg : Nat → Option Nat} {ex td : Nat → Nat → Prop} {ph q s : Nat}
theorem sx_reach {post : SX → Prop} {c n g : Nat} (C : sp_cls nc fc pa ups) (M : sp_mth nc nm fc hm na ln br dc) (F : sp_fd nc pa fc ups hm dc fd) (W : sp_ok nc nm fc br ln op cl nn fd) (A : ∀ a b, a < nc → b < 10 → xfd (10 * a + b) = oI (fd a b)) (hc : c < nc) (hn : n < 10) (hg : fd c n = some g) (hM : sm_ML nc nm nr ups hm na ln br op cl nn fd tg rk rc rn 2 g)
    (hS : ∀ d g, d < nc → sm_ML nc nm nr ups hm na ln br op cl nn fd tg rk rc rn 1 d → bt (ups d) c = true → fd d n = some g → sm_ML nc nm nr ups hm na ln br op cl nn fd tg rk rc rn 2 g ∧ (br g = 0 → sm_ML nc nm nr ups hm na ln br op cl nn fd tg rk rc rn 3 g)) (I : sm_XI nc nm nr ups hm na ln br op cl nn fd tg rk rc rn (fun _ _ => False) td ph xnd xmd xnh xlv q s xqu xwt xsi)
    (K : ∀ (nd' nh' lv' : Int32) (q' s' : Nat) (qu' wt' si' : Nat → Int32), sm_XI nc nm nr ups hm na ln br op cl nn fd tg rk rc rn (fun _ _ => False) td ph nd' xmd nh' lv' q' s' qu' wt' si' → sm_le xnd xmd xnh xlv xwt nd' xmd nh' lv' wt' → ¬ wt' (10 * c + n) = 0 → post ((nI nc), (nI nm), (nI nr), nd', xmd, nh', lv', (nI q'), (nI s'), xbt, xft, xdp, xst, xss, xpt, xtr, xsm, fc, (oF pa), xfs, ups, (nF hm), (nF na), br, (nF ln), (nF op), ic, ii, xdc, xfd, (nF rk), rc, rn, qu', wt', si', xtg, xnw, xfa, xsg, xnn, xtk, xrl, bop, bcl, bin, bsk, bme, bli, bou, xnf, xfm, xfl, xfh, xou, xem, xel)) : wpX_reach post ((nI nc), (nI nm), (nI nr), xnd, xmd, xnh, xlv, (nI q), (nI s), xbt, xft, xdp, xst, xss, xpt, xtr, xsm, fc, (oF pa), xfs, ups, (nF hm), (nF na), br, (nF ln), (nF op), ic, ii, xdc, xfd, (nF rk), rc, rn, xqu, xwt, xsi, xtg, xnw, xfa, xsg, xnn, xtk, xrl, bop, bcl, bin, bsk, bme, bli, bou, xnf, xfm, xfl, xfh, xou, xem, xel) (nI c) (nI n) := by
  have h30 := M.1
  have h10 := C.1
  have hgm := (sp_sound C M F c n g hc hg).1
  have hv : vp_in (nI (10 * c + n)) 100 := vp_in_nI (by omega) (by decide)
  unfold wpX_reach
  dsimp only
  rw [sd_x10, nI_add]
  refine nm_e ?_
  rw [nI_clamp (n := 10 * c + n) (by omega), A c n hc hn, hg, oI_s]
  refine And.intro hv (br_c (fun hw => ?_) (fun hw => K _ _ _ _ _ _ _ _ I sm_le_r hw))
  have hs := sm_s100 (by omega) hw I
  rw [nI_clamp (n := s) (by omega), sd_vbb (by omega), sd_bo1]
  refine And.intro hv (nm_e (nm_r (nI_1 s) (And.intro (vp_in_nI (by omega) (by decide)) (nm_e (And.intro hv (sx_nameMethod M h10 hgm ?_))))))
  have I2 := sm_P2 C M hgm hM I
  have L2 : sm_le xnd xmd xnh xlv xwt (xnd ||| ups (hm g)) xmd (xnh ||| ((1 : Int32) <<< (nI g &&& 31))) xlv xwt := sm_L2 (by omega)
  have I5 := sm_P5 hc h10 hn hg (b_or1s (by omega)) hw hS I2
  have hw' : ¬ upd xwt (10 * c + n) 1 (10 * c + n) = 0 := by rw [pk_us]; decide
  have L5 : sm_le xnd xmd xnh xlv xwt (xnd ||| ups (hm g)) xmd (xnh ||| ((1 : Int32) <<< (nI g &&& 31))) xlv (upd xwt (10 * c + n) 1) := ⟨L2.1, L2.2.1, L2.2.2.1, L2.2.2.2.1, fun k z => by
    by_cases y : k = 10 * c + n
    · rw [y]; exact hw'
    · rw [pk_un y]; exact z⟩
  refine ⟨nc + 1, ?_⟩
  rw [← nI_0]
  exact sx_reach55 C M F W A hc hn hw' (fun nd' nh' lv' q' qu' I' L' => K _ _ _ _ _ _ _ _ I' (sm_le_t L5 L') hw') (nc + 1) 0 _ _ _ _ _ (by omega) (by omega) I5 sm_le_r
theorem sx_follow92 {post : SX → Prop} {i : Nat} (C : sp_cls nc fc pa ups) (M : sp_mth nc nm fc hm na ln br dc) (A : ∀ a b, a < nc → b < 10 → xfd (10 * a + b) = oI (fd a b)) (hi : i < 180) (ho : op i < 6) (hc : cl i < nc)
    (h3 : op i = 3 → ∃ g, ii i = nI (nn i) ∧ nn i < 10 ∧ fd (cl i) (nn i) = some g ∧ g < nm ∧ sm_ML nc nm nr ups hm na ln br op cl nn fd tg rk rc rn 3 g) (I : sm_XI nc nm nr ups hm na ln br op cl nn fd tg rk rc rn ex td ph xnd xmd xnh xlv q s xqu xwt xsi)
    (K : ∀ (nd' lv' : Int32) (q' : Nat) (qu' : Nat → Int32), sm_XI nc nm nr ups hm na ln br op cl nn fd tg rk rc rn ex td ph nd' xmd xnh lv' q' s qu' xwt xsi → sm_le xnd xmd xnh xlv xwt nd' xmd xnh lv' xwt → (op i = 3 → ∀ g, fd (cl i) (nn i) = some g → bt lv' g = true) → post ((nI nc), (nI nm), (nI nr), nd', xmd, xnh, lv', (nI q'), (nI s), xbt, xft, xdp, xst, xss, xpt, xtr, xsm, fc, (oF pa), xfs, ups, (nF hm), (nF na), br, (nF ln), (nF op), ic, ii, xdc, xfd, (nF rk), rc, rn, qu', xwt, xsi, xtg, xnw, xfa, xsg, xnn, xtk, xrl, bop, bcl, bin, bsk, bme, bli, bou, xnf, xfm, xfl, xfh, xou, xem, xel)) : wX_follow_92 post (nI i) (nI (cl i)) (nI nc) (nI nm) (nI nr) xnd xmd xnh xlv (nI q) (nI s) xbt xft xdp xst xss xpt xtr xsm fc (oF pa) xfs ups (nF hm) (nF na) br (nF ln) (nF op) ic ii xdc xfd (nF rk) rc rn xqu xwt xsi xtg xnw xfa xsg xnn xtk xrl bop bcl bin bsk bme bli bou xnf xfm xfl xfh xou xem xel := by
  have h10 := C.1
  unfold wX_follow_92
  rw [nI_clamp (n := i) (by omega), nF_a]
  have hv : vp_in (nI i) 180 := vp_in_nI hi (by decide)
  refine ⟨hv, pk_eq (op i) 3 (fun o3 => ⟨hv, ?_⟩) (fun o3 => K _ _ _ _ I sm_le_r (fun z => absurd z o3))⟩
  obtain ⟨g, e1, e2, e3, e4, e5⟩ := h3 o3
  rw [e1]
  refine sx_found h10 A hc e2 ?_
  rw [e3]
  exact sx_liven C M e4 e5 I (fun nd' lv' q' qu' I' L' e => K _ _ _ _ I' L' (fun _ g' hg' => by rw [e3] at hg'; cases hg'; exact e))
theorem sx_follow41 {post : SX → Prop} {m k : Nat} {x3 : Int32} (C : sp_cls nc fc pa ups) (M : sp_mth nc nm fc hm na ln br dc) (N : sp_ins nm ln op cl nn ic ii fs sc) (F : sp_fd nc pa fc ups hm dc fd) (W : sp_ok nc nm fc br ln op cl nn fd) (A : ∀ a b, a < nc → b < 10 → xfd (10 * a + b) = oI (fd a b)) (hm' : m < nm) (hk : k < ln m) (hL : sm_ML nc nm nr ups hm na ln br op cl nn fd tg rk rc rn 3 m)
    (h0 : op (6 * m + k) ≠ 0) (h5 : op (6 * m + k) ≠ 5) (ht : tg (6 * m + k) = none ∧ x3 = 0 ∨ (∃ t, tg (6 * m + k) = some t) ∧ x3 = 1 ∧ op (6 * m + k) ≠ 3) (I : sm_XI nc nm nr ups hm na ln br op cl nn fd tg rk rc rn (fun _ _ => False) td ph xnd xmd xnh xlv q s xqu xwt xsi)
    (K : ∀ (nd' md' nh' lv' : Int32) (q' s' : Nat) (qu' wt' si' : Nat → Int32), sm_XI nc nm nr ups hm na ln br op cl nn fd tg rk rc rn (fun _ _ => False) td ph nd' md' nh' lv' q' s' qu' wt' si' → sm_le xnd xmd xnh xlv xwt nd' md' nh' lv' wt' → sm_FL op cl nn fd tg nd' md' lv' wt' (6 * m + k) → post ((nI nc), (nI nm), (nI nr), nd', md', nh', lv', (nI q'), (nI s'), xbt, xft, xdp, xst, xss, xpt, xtr, xsm, fc, (oF pa), xfs, ups, (nF hm), (nF na), br, (nF ln), (nF op), ic, ii, xdc, xfd, (nF rk), rc, rn, qu', wt', si', xtg, xnw, xfa, xsg, xnn, xtk, xrl, bop, bcl, bin, bsk, bme, bli, bou, xnf, xfm, xfl, xfh, xou, xem, xel)) : wX_follow_41 post (nI (6 * m + k)) (nI (cl (6 * m + k))) x3 (nI nc) (nI nm) (nI nr) xnd xmd xnh xlv (nI q) (nI s) xbt xft xdp xst xss xpt xtr xsm fc (oF pa) xfs ups (nF hm) (nF na) br (nF ln) (nF op) ic ii xdc xfd (nF rk) rc rn xqu xwt xsi xtg xnw xfa xsg xnn xtk xrl bop bcl bin bsk bme bli bou xnf xfm xfl xfh xou xem xel := by
  have h30 := M.1
  have h10 := C.1
  have hl := (M.2.1 m hm').2.2.1
  have hc := sp_okc W hm' hk h0 h5
  obtain ⟨n1, n2, n3, n4, n5, n6⟩ := N m k hm' hk
  obtain ⟨l1, l2, l3, l4, l5⟩ := sm_MLc.2.2.2.2.2 m k hm' hL hk
  have okf := sp_okf W hm' hk
  have hi : 6 * m + k < 180 := by omega
  generalize hie : 6 * m + k = i at *
  have hv : vp_in (nI i) 180 := vp_in_nI hi (by decide)
  have t3 : op i = 3 → tg i = none := fun o3 => ht.elim (fun z => z.1) (fun z => absurd o3 z.2.2)
  have hM0 := l1 h0 h5 t3
  have I1 := sm_P1 C hc hM0 I
  have L1 : sm_le xnd xmd xnh xlv xwt (xnd ||| ups (cl i)) xmd xnh xlv xwt := sm_L1
  have hnc : bt (xnd ||| ups (cl i)) (cl i) = true := b_orr (C.2.2.2.1 _ hc)
  unfold wX_follow_41
  refine sx_nameClass (by omega) ?_
  dsimp only
  rw [nI_clamp (n := i) (by omega), nF_a]
  refine And.intro hv (pk_eq (op i) 1 (fun o1 => ?_) (fun o1 => ⟨hv, pk_eq (op i) 2 (fun o2 => ?_) (fun o2 => ?_)⟩))
  · refine sx_make C M F A hc (l2 o1) I1 (fun nd' md' nh' lv' q' qu' I' L' e => K _ _ _ _ _ _ _ _ _ I' (sm_le_t L1 L') ⟨fun _ _ _ => L'.1 _ hnc, fun _ => e, fun z => by omega, fun z => by omega⟩)
  · rcases ht with ⟨t1, t2⟩ | ⟨⟨t, t1⟩, t2, t4⟩
    · rw [t2]
      refine br_t rfl ⟨hv, ?_⟩
      obtain ⟨f1, f2, f3⟩ := n5 (Or.inl o2)
      obtain ⟨g, hg, _⟩ := okf (Or.inl o2)
      rw [f1]
      refine sx_reach C M F W A hc f3 hg (l3 o2 t1 g hg) (fun d g hd h1 h2 h3 => l5 o2 t1 d g hd h1 h2 h3) I1 (fun nd' nh' lv' q' s' qu' wt' si' I' L' e => K _ _ _ _ _ _ _ _ _ I' (sm_le_t L1 L') ⟨fun _ _ _ => L'.1 _ hnc, fun z => by omega, fun _ _ => e, fun z => by omega⟩)
    · rw [t2]
      refine br_f (by decide) (sx_follow92 C M A hi n1 hc (fun z => by omega) I1 (fun nd' lv' q' qu' I' L' _ => K _ _ _ _ _ _ _ _ _ I' (sm_le_t L1 L') ⟨fun _ _ _ => L'.1 _ hnc, fun z => by omega, fun _ z => (by rw [t1] at z; cases z), fun z => by omega⟩))
  · refine sx_follow92 C M A hi n1 hc (fun o3 => ?_) I1 (fun nd' lv' q' qu' I' L' e => K _ _ _ _ _ _ _ _ _ I' (sm_le_t L1 L') ⟨fun _ _ _ => L'.1 _ hnc, fun z => by omega, fun z => by omega, fun o3 _ => e o3⟩)
    obtain ⟨g, hg, _⟩ := okf (Or.inr o3)
    obtain ⟨f1, f2, f3⟩ := n5 (Or.inr o3)
    exact ⟨g, f1, f3, hg, (sp_sound C M F _ _ g hc hg).1, l4 o3 (t3 o3) g hg⟩
theorem sx_follow {post : SX → Prop} {m k : Nat} (C : sp_cls nc fc pa ups) (M : sp_mth nc nm fc hm na ln br dc) (N : sp_ins nm ln op cl nn ic ii fs sc) (F : sp_fd nc pa fc ups hm dc fd) (W : sp_ok nc nm fc br ln op cl nn fd) (A : ∀ a b, a < nc → b < 10 → xfd (10 * a + b) = oI (fd a b)) (hm' : m < nm) (hk : k < ln m) (hL : sm_ML nc nm nr ups hm na ln br op cl nn fd tg rk rc rn 3 m)
    (hT : xtg (6 * m + k) = oI (tg (6 * m + k))) (hT2 : ∀ t, tg (6 * m + k) = some t → t < 128) (I : sm_XI nc nm nr ups hm na ln br op cl nn fd tg rk rc rn (fun _ _ => False) td ph xnd xmd xnh xlv q s xqu xwt xsi)
    (K : ∀ (nd' md' nh' lv' : Int32) (q' s' : Nat) (qu' wt' si' : Nat → Int32), sm_XI nc nm nr ups hm na ln br op cl nn fd tg rk rc rn (fun _ _ => False) td ph nd' md' nh' lv' q' s' qu' wt' si' → sm_le xnd xmd xnh xlv xwt nd' md' nh' lv' wt' → sm_FL op cl nn fd tg nd' md' lv' wt' (6 * m + k) → post ((nI nc), (nI nm), (nI nr), nd', md', nh', lv', (nI q'), (nI s'), xbt, xft, xdp, xst, xss, xpt, xtr, xsm, fc, (oF pa), xfs, ups, (nF hm), (nF na), br, (nF ln), (nF op), ic, ii, xdc, xfd, (nF rk), rc, rn, qu', wt', si', xtg, xnw, xfa, xsg, xnn, xtk, xrl, bop, bcl, bin, bsk, bme, bli, bou, xnf, xfm, xfl, xfh, xou, xem, xel)) : wpX_follow post ((nI nc), (nI nm), (nI nr), xnd, xmd, xnh, xlv, (nI q), (nI s), xbt, xft, xdp, xst, xss, xpt, xtr, xsm, fc, (oF pa), xfs, ups, (nF hm), (nF na), br, (nF ln), (nF op), ic, ii, xdc, xfd, (nF rk), rc, rn, xqu, xwt, xsi, xtg, xnw, xfa, xsg, xnn, xtk, xrl, bop, bcl, bin, bsk, bme, bli, bou, xnf, xfm, xfl, xfh, xou, xem, xel) (nI (6 * m + k)) := by
  have h30 := M.1
  have hl := (M.2.1 m hm').2.2.1
  obtain ⟨n1, n2, n3, n4, n5, n6⟩ := N m k hm' hk
  have hi : 6 * m + k < 180 := by omega
  have hv : vp_in (nI (6 * m + k)) 180 := vp_in_nI hi (by decide)
  unfold wpX_follow
  dsimp only
  rw [nI_clamp (n := 6 * m + k) (by omega), hT]
  refine And.intro hv (nm_e (And.intro hv ?_))
  by_cases h0 : op (6 * m + k) = 0 ∨ op (6 * m + k) = 5
  · have e : ic (6 * m + k) = -1 := h0.elim (fun z => (n2 z).1) n3
    have hK := K _ _ _ _ _ _ _ _ _ I sm_le_r ⟨fun a b => by omega, fun a => by omega, fun a => by omega, fun a => by omega⟩
    rw [e]
    exact br_c (fun _ => br_t (by decide) hK) (fun _ => br_t (by decide) hK)
  · obtain ⟨e1, e2, e3⟩ := n4 (fun z => h0 (Or.inl z)) (fun z => h0 (Or.inr z))
    rw [e1]
    cases et : tg (6 * m + k) with
    | none =>
      refine br_t (by decide) (br_f (nI_pos (by omega)) (br_t rfl ?_))
      exact sx_follow41 C M N F W A hm' hk hL (fun z => h0 (Or.inl z)) (fun z => h0 (Or.inr z)) (Or.inl ⟨et, rfl⟩) I K
    | some t =>
      have := hT2 t et
      refine br_f (nI_pos (by omega)) (br_f (nI_pos (by omega)) (br_f (by decide) ⟨hv, ?_⟩))
      rw [nI_clamp (n := 6 * m + k) (by omega), nF_a]
      refine pk_eq (op (6 * m + k)) 3 (fun o3 => ?_) (fun o3 => ?_)
      · exact K _ _ _ _ _ _ _ _ _ I sm_le_r ⟨fun _ _ c => by rw [et] at c; exact absurd (c o3) (by simp), fun a => by omega, fun a => by omega, fun _ a => by rw [et] at a; cases a⟩
      · exact sx_follow41 C M N F W A hm' hk hL (fun z => h0 (Or.inl z)) (fun z => h0 (Or.inr z)) (Or.inr ⟨⟨t, et⟩, rfl, o3⟩) I K
end
end
section
/-! the component's marking: roots, the worklist, the whole -/
theorem cn_F : ∀ N, cn (fun _ => False) N = 0
  | 0 => rfl
  | N + 1 => by simp only [cn, cn_F N, b01_f (fun z : False => z)]
section
variable {nc nm nr : Nat} {pa : Nat → Option Nat} {hm na ln op rk cl nn : Nat → Nat} {fc ups br ic ii fs sc rc rn : Nat → Int32} {dc fd : Nat → Nat → Option Nat}
variable {xnd xmd xnh xlv xq xs xbt xft xdp xst xss xpt xtr xsm : Int32} {xfs xdc xfd xqu xwt xsi xtg xnw xfa xsg xnn xtk xrl bop bcl bin bsk bme bli bou xnf xfm xfl xfh xou xem xel : Nat → Int32}
variable {ypl ynd ymd ynh ylv ybt ydp yst yot yen : Int32} {yow yma yil ynu ynn yfa yvm yvl yvh ypu : Nat → Int32}
variable {tg : Nat → Option Nat} {ex td : Nat → Nat → Prop} {ph q s : Nat}
theorem sx_mark110 {post : SX → Prop} {J81 : Int32 → Int32 → Int32 → Int32 → Int32 → Int32 → Int32 → Int32 → Int32 → Int32 → Int32 → Int32 → Int32 → Int32 → Int32 → Int32 → Int32 → (Nat → Int32) → (Nat → Int32) → (Nat → Int32) → (Nat → Int32) → (Nat → Int32) → (Nat → Int32) → (Nat → Int32) → (Nat → Int32) → (Nat → Int32) → (Nat → Int32) → (Nat → Int32) → (Nat → Int32) → (Nat → Int32) → (Nat → Int32) → (Nat → Int32) → (Nat → Int32) → (Nat → Int32) → (Nat → Int32) → (Nat → Int32) → (Nat → Int32) → (Nat → Int32) → (Nat → Int32) → (Nat → Int32) → (Nat → Int32) → (Nat → Int32) → (Nat → Int32) → (Nat → Int32) → (Nat → Int32) → (Nat → Int32) → (Nat → Int32) → (Nat → Int32) → (Nat → Int32) → (Nat → Int32) → (Nat → Int32) → (Nat → Int32) → (Nat → Int32) → (Nat → Int32) → (Nat → Int32) → (Nat → Int32) → (Nat → Int32) → Prop} {m : Nat} (C : sp_cls nc fc pa ups) (M : sp_mth nc nm fc hm na ln br dc) (N : sp_ins nm ln op cl nn ic ii fs sc) (F : sp_fd nc pa fc ups hm dc fd) (W : sp_ok nc nm fc br ln op cl nn fd) (A : ∀ a b, a < nc → b < 10 → xfd (10 * a + b) = oI (fd a b)) (T : ∀ m k, m < nm → k < ln m → xtg (6 * m + k) = oI (tg (6 * m + k)) ∧ ∀ t, tg (6 * m + k) = some t → t < 128) (hm' : m < nm) {nd0 md0 nh0 lv0 : Int32} {wt0 : Nat → Int32}
    (K : ∀ (xnd xmd xnh xlv : Int32) (q s : Nat) (xqu xwt xsi : Nat → Int32), sm_XI nc nm nr ups hm na ln br op cl nn fd tg rk rc rn (fun _ _ => False) (fun _ _ => False) ph xnd xmd xnh xlv q s xqu xwt xsi → sm_le nd0 md0 nh0 lv0 wt0 xnd xmd xnh xlv xwt → J81 (nI nc) (nI nm) (nI nr) xnd xmd xnh xlv (nI q) (nI s) xbt xft xdp xst xss xpt xtr xsm fc (oF pa) xfs ups (nF hm) (nF na) br (nF ln) (nF op) ic ii xdc xfd (nF rk) rc rn xqu xwt xsi xtg xnw xfa xsg xnn xtk xrl bop bcl bin bsk bme bli bou xnf xfm xfl xfh xou xem xel) :
    ∀ fuel k (xnd xmd xnh xlv : Int32) (q s : Nat) (xqu xwt xsi : Nat → Int32), k ≤ ln m → ln m - k < fuel → bt xlv m = true → sm_XI nc nm nr ups hm na ln br op cl nn fd tg rk rc rn (fun _ _ => False) (fun x j => x = m ∧ k ≤ j) ph xnd xmd xnh xlv q s xqu xwt xsi → sm_le nd0 md0 nh0 lv0 wt0 xnd xmd xnh xlv xwt → wX_mark_110 post J81 (nI m) fuel (nI (6 * m + k)) (nI nc) (nI nm) (nI nr) xnd xmd xnh xlv (nI q) (nI s) xbt xft xdp xst xss xpt xtr xsm fc (oF pa) xfs ups (nF hm) (nF na) br (nF ln) (nF op) ic ii xdc xfd (nF rk) rc rn xqu xwt xsi xtg xnw xfa xsg xnn xtk xrl bop bcl bin bsk bme bli bou xnf xfm xfl xfh xou xem xel := by
  intro fuel
  induction fuel with
  | zero => intro k _ _ _ _ _ _ _ _ _ _ h; omega
  | succ f ih =>
    intro k xnd xmd xnh xlv q s xqu xwt xsi hk hf hlv I L
    have h30 := M.1
    have hl := (M.2.1 m hm').2.2.1
    rw [wX_mark_110]
    dsimp only
    rw [sd_x6, nI_clamp (n := m) (by omega), nF_a, nI_add]
    refine ⟨vp_in_nI (by omega) (by decide), pk_le (6 * m + ln m) (6 * m + k) (fun h => K _ _ _ _ _ _ _ _ _ (sm_P8 I ?_) L) (fun h => ?_)⟩
    · rintro x j _ hj ⟨e, hkj⟩
      rw [e] at hj
      omega
    · have hk' : k < ln m := by omega
      obtain ⟨T1, T2⟩ := T m k hm' hk'
      refine sx_follow C M N F W A hm' hk' (I.1.2.2.2.1 m hlv) T1 T2 I (fun nd' md' nh' lv' q' s' qu' wt' si' I' L' hF => nm_r (nI_1 (6 * m + k)) (ih (k + 1) _ _ _ _ _ _ _ _ _ (by omega) (by omega) (L'.2.2.2.1 _ hlv) (sm_P8 I' ?_) (sm_le_t L L')))
      rintro x j _ hj ⟨e, hkj⟩
      by_cases z : j = k
      · refine Or.inr ?_
        rw [e, z]; exact hF
      · exact Or.inl ⟨e, by omega⟩
theorem sx_mark81 {post : SX → Prop} (C : sp_cls nc fc pa ups) (M : sp_mth nc nm fc hm na ln br dc) (N : sp_ins nm ln op cl nn ic ii fs sc) (F : sp_fd nc pa fc ups hm dc fd) (W : sp_ok nc nm fc br ln op cl nn fd) (A : ∀ a b, a < nc → b < 10 → xfd (10 * a + b) = oI (fd a b)) (T : ∀ m k, m < nm → k < ln m → xtg (6 * m + k) = oI (tg (6 * m + k)) ∧ ∀ t, tg (6 * m + k) = some t → t < 128)
    (K : ∀ (ph : Nat) (xnd xmd xnh xlv : Int32) (s : Nat) (xqu xwt xsi : Nat → Int32), sm_XI nc nm nr ups hm na ln br op cl nn fd tg rk rc rn (fun _ _ => False) (fun _ _ => False) ph xnd xmd xnh xlv 0 s xqu xwt xsi → sm_RU nc nm nr hm na br rk rc rn xnd xnh xlv → post ((nI nc), (nI nm), (nI nr), xnd, xmd, xnh, xlv, (nI 0), (nI s), xbt, xft, xdp, xst, xss, xpt, xtr, xsm, fc, (oF pa), xfs, ups, (nF hm), (nF na), br, (nF ln), (nF op), ic, ii, xdc, xfd, (nF rk), rc, rn, xqu, xwt, xsi, xtg, xnw, xfa, xsg, xnn, xtk, xrl, bop, bcl, bin, bsk, bme, bli, bou, xnf, xfm, xfl, xfh, xou, xem, xel)) :
    ∀ fuel ph (xnd xmd xnh xlv : Int32) (q s : Nat) (xqu xwt xsi : Nat → Int32), 30 - ph < fuel → sm_XI nc nm nr ups hm na ln br op cl nn fd tg rk rc rn (fun _ _ => False) (fun _ _ => False) ph xnd xmd xnh xlv q s xqu xwt xsi → sm_RU nc nm nr hm na br rk rc rn xnd xnh xlv → wX_mark_81 post fuel (nI nc) (nI nm) (nI nr) xnd xmd xnh xlv (nI q) (nI s) xbt xft xdp xst xss xpt xtr xsm fc (oF pa) xfs ups (nF hm) (nF na) br (nF ln) (nF op) ic ii xdc xfd (nF rk) rc rn xqu xwt xsi xtg xnw xfa xsg xnn xtk xrl bop bcl bin bsk bme bli bou xnf xfm xfl xfh xou xem xel := by
  intro fuel
  induction fuel with
  | zero => intro ph _ _ _ _ _ _ _ _ _ h; omega
  | succ f ih =>
    intro ph xnd xmd xnh xlv q s xqu xwt xsi hf I R
    have h30 := M.1
    have hq : q + ph ≤ 30 := by rw [← I.2.1.2]; exact cn_le _ _
    rw [wX_mark_81]
    dsimp only
    cases q with
    | zero => exact br_t (by rw [nI_0]; exact Int32.le_refl _) (K ph _ _ _ _ _ _ _ _ I R)
    | succ q =>
      obtain ⟨m, hm', e1, e2⟩ := I.2.1.1 q (by omega)
      have hl := (M.2.1 m hm').2.2.1
      rw [nI_pred, nI_clamp (n := q) (by omega), e1]
      refine br_f (nI_nle (by omega) (by omega)) (nm_e ⟨vp_in_nI (by omega) (by decide), nm_e (nm_r (sd_x6 m) ⟨7, ?_⟩)⟩)
      exact sx_mark110 C M N F W A T hm' (fun nd' md' nh' lv' q' s' qu' wt' si' I' L' => ih (ph + 1) _ _ _ _ _ _ _ _ _ (by omega) I' (sm_RUm L' R)) 7 0 _ _ _ _ _ _ _ _ _ (by omega) (by omega) e2 (sm_P6 e1 hm' h30 I) sm_le_r
theorem sx_matches {r m : Nat} {A B : Prop} (M : sp_mth nc nm fc hm na ln br dc) (h10 : nc ≤ 10) (h4 : nr ≤ 4) (hr : r < nr) (hm' : m < nm) (f : ¬ (bt (rc r) (hm m) = true ∧ bt (rn r) (na m) = true) → A) (g : bt (rc r) (hm m) = true → bt (rn r) (na m) = true → B) :
    wpX_matches (fun r => (r = 0 → A) ∧ (¬ r = 0 → B)) ((nI nc), (nI nm), (nI nr), xnd, xmd, xnh, xlv, xq, xs, xbt, xft, xdp, xst, xss, xpt, xtr, xsm, fc, (oF pa), xfs, ups, (nF hm), (nF na), br, (nF ln), (nF op), ic, ii, xdc, xfd, (nF rk), rc, rn, xqu, xwt, xsi, xtg, xnw, xfa, xsg, xnn, xtk, xrl, bop, bcl, bin, bsk, bme, bli, bou, xnf, xfm, xfl, xfh, xou, xem, xel) (nI r) (nI m) := by
  have h30 := M.1
  obtain ⟨h1, h2, _⟩ := M.2.1 m hm'
  unfold wpX_matches
  dsimp only
  rw [nI_clamp (n := r) (by omega), nI_clamp (n := m) (by omega), nF_a, nF_a]
  have hv : vp_in (nI r) 4 := vp_in_nI (by omega) (by decide)
  have hv' : vp_in (nI m) 30 := vp_in_nI (by omega) (by decide)
  refine And.intro hv (And.intro hv' (xh_b (by omega) (fun hb => br_t rfl (f (fun z => by rw [hb] at z; cases z.1))) (fun hb => And.intro hv (And.intro hv' (xh_b (by omega) (fun hb2 => br_t rfl (f (fun z => by rw [hb2] at z; cases z.2))) (fun hb2 => br_f (by decide) (g hb hb2)))))))
theorem sx_root36 {post : SX → Prop} {r : Nat} (C : sp_cls nc fc pa ups) (M : sp_mth nc nm fc hm na ln br dc) (h4 : nr ≤ 4) (hr : r < nr) (hk : rk r = 0) {nd0 nh0 lv0 : Int32}
    (K : ∀ (xnd xnh xlv : Int32) (q : Nat) (xqu : Nat → Int32), sm_XI nc nm nr ups hm na ln br op cl nn fd tg rk rc rn ex td ph xnd xmd xnh xlv q s xqu xwt xsi → sm_le nd0 xmd nh0 lv0 xwt xnd xmd xnh xlv xwt → (∀ m, m < nm → bt (rc r) (hm m) = true → bt (rn r) (na m) = true → bt xnh m = true ∧ (br m = 0 → bt xlv m = true)) → post ((nI nc), (nI nm), (nI nr), xnd, xmd, xnh, xlv, (nI q), (nI s), xbt, xft, xdp, xst, xss, xpt, xtr, xsm, fc, (oF pa), xfs, ups, (nF hm), (nF na), br, (nF ln), (nF op), ic, ii, xdc, xfd, (nF rk), rc, rn, xqu, xwt, xsi, xtg, xnw, xfa, xsg, xnn, xtk, xrl, bop, bcl, bin, bsk, bme, bli, bou, xnf, xfm, xfl, xfh, xou, xem, xel)) :
    ∀ fuel i (xnd xnh xlv : Int32) (q : Nat) (xqu : Nat → Int32), i ≤ nm → nm - i < fuel → sm_XI nc nm nr ups hm na ln br op cl nn fd tg rk rc rn ex td ph xnd xmd xnh xlv q s xqu xwt xsi → sm_le nd0 xmd nh0 lv0 xwt xnd xmd xnh xlv xwt → (∀ m, m < i → bt (rc r) (hm m) = true → bt (rn r) (na m) = true → bt xnh m = true ∧ (br m = 0 → bt xlv m = true)) → wX_root_36 post (nI r) fuel (nI i) (nI nc) (nI nm) (nI nr) xnd xmd xnh xlv (nI q) (nI s) xbt xft xdp xst xss xpt xtr xsm fc (oF pa) xfs ups (nF hm) (nF na) br (nF ln) (nF op) ic ii xdc xfd (nF rk) rc rn xqu xwt xsi xtg xnw xfa xsg xnn xtk xrl bop bcl bin bsk bme bli bou xnf xfm xfl xfh xou xem xel := by
  intro fuel
  induction fuel with
  | zero => intro i _ _ _ _ _ _ h; omega
  | succ f ih =>
    intro i xnd xnh xlv q xqu hi hf I L hd
    have h30 := M.1
    have h10 := C.1
    rw [wX_root_36]
    refine pk_le nm i (fun h => K _ _ _ _ _ I L (fun m hm' => hd m (by omega))) (fun h => ?_)
    refine sx_matches M h10 h4 hr h (fun hn => nm_r (nI_1 i) (ih (i + 1) _ _ _ _ _ (by omega) (by omega) I L (lt_s hd (fun a b => absurd ⟨a, b⟩ hn)))) (fun hb1 hb2 => ?_)
    obtain ⟨m2, m3⟩ := sm_MLc.2.1 r i hr hk h hb1 hb2
    have I2 := sm_P2 C M h m2 I
    have L2 : sm_le xnd xmd xnh xlv xwt (xnd ||| ups (hm i)) xmd (xnh ||| ((1 : Int32) <<< (nI i &&& 31))) xlv xwt := sm_L2 (by omega)
    have up : ∀ {nd' nh' lv' : Int32}, sm_le xnd xmd xnh xlv xwt nd' xmd nh' lv' xwt → bt nh' i = true → (br i = 0 → bt lv' i = true) → ∀ m, m < i + 1 → bt (rc r) (hm m) = true → bt (rn r) (na m) = true → bt nh' m = true ∧ (br m = 0 → bt lv' m = true) := fun L' e1 e2 =>
      lt_s (fun m hm' a b => ⟨L'.2.2.1 _ (hd m hm' a b).1, fun z => L'.2.2.2.1 _ ((hd m hm' a b).2 z)⟩) (fun _ _ => ⟨e1, e2⟩)
    refine sx_nameMethod M h10 h ?_
    rw [nI_clamp (n := i) (by omega)]
    refine And.intro (vp_in_nI (by omega) (by decide)) (br_c (fun z => ?_) (fun z => ?_))
    · refine sx_liven C M h (m3 z) I2 (fun nd' lv' q' qu' I' L' e => nm_r (nI_1 i) ?_)
      exact ih (i + 1) _ _ _ _ _ (by omega) (by omega) I' (sm_le_t L (sm_le_t L2 L')) (up (sm_le_t L2 L') (L'.2.2.1 _ (b_or1s (by omega))) (fun _ => e))
    · refine nm_r (nI_1 i) ?_
      exact ih (i + 1) _ _ _ _ _ (by omega) (by omega) I2 (sm_le_t L L2) (up L2 (b_or1s (by omega)) (fun y => absurd y z))
theorem sx_root2 {post : SX → Prop} {r : Nat} (C : sp_cls nc fc pa ups) (M : sp_mth nc nm fc hm na ln br dc) (h4 : nr ≤ 4) (hr : r < nr) (hk : rk r = 0) {nd0 : Int32}
    (K : ∀ (xnd xnh' xlv' : Int32) (q : Nat) (xqu : Nat → Int32), sm_XI nc nm nr ups hm na ln br op cl nn fd tg rk rc rn ex td ph xnd xmd xnh' xlv' q s xqu xwt xsi → sm_le nd0 xmd xnh xlv xwt xnd xmd xnh' xlv' xwt → (∀ c, c < nc → bt (rc r) c = true → bt xnd c = true) → (∀ m, m < nm → bt (rc r) (hm m) = true → bt (rn r) (na m) = true → bt xnh' m = true ∧ (br m = 0 → bt xlv' m = true)) → post ((nI nc), (nI nm), (nI nr), xnd, xmd, xnh', xlv', (nI q), (nI s), xbt, xft, xdp, xst, xss, xpt, xtr, xsm, fc, (oF pa), xfs, ups, (nF hm), (nF na), br, (nF ln), (nF op), ic, ii, xdc, xfd, (nF rk), rc, rn, xqu, xwt, xsi, xtg, xnw, xfa, xsg, xnn, xtk, xrl, bop, bcl, bin, bsk, bme, bli, bou, xnf, xfm, xfl, xfh, xou, xem, xel)) :
    ∀ fuel i (xnd : Int32), i ≤ nc → nc - i < fuel → sm_XI nc nm nr ups hm na ln br op cl nn fd tg rk rc rn ex td ph xnd xmd xnh xlv q s xqu xwt xsi → sm_le nd0 xmd xnh xlv xwt xnd xmd xnh xlv xwt → (∀ c, c < i → bt (rc r) c = true → bt xnd c = true) → wX_root_2 post (nI r) fuel (nI i) (nI nc) (nI nm) (nI nr) xnd xmd xnh xlv (nI q) (nI s) xbt xft xdp xst xss xpt xtr xsm fc (oF pa) xfs ups (nF hm) (nF na) br (nF ln) (nF op) ic ii xdc xfd (nF rk) rc rn xqu xwt xsi xtg xnw xfa xsg xnn xtk xrl bop bcl bin bsk bme bli bou xnf xfm xfl xfh xou xem xel := by
  intro fuel
  induction fuel with
  | zero => intro i _ _ h; omega
  | succ f ih =>
    intro i xnd hi hf I L hd
    have h30 := M.1
    have h10 := C.1
    rw [wX_root_2]
    refine pk_le nc i (fun h => ⟨nm + 1, ?_⟩) (fun h => ⟨vp_in_nI (by omega) (by decide), ?_⟩)
    · rw [← nI_0]
      exact sx_root36 C M h4 hr hk (fun xnd' xnh' xlv' q' xqu' I' L' hd' => K _ _ _ _ _ I' (sm_le_t L L') (fun c hc hb => L'.1 _ (hd c (by omega) hb)) hd') (nm + 1) 0 _ _ _ _ _ (by omega) (by omega) I sm_le_r (fun m hm' => by omega)
    · rw [nI_clamp (n := r) (by omega)]
      refine xh_b (by omega) (fun hb => nm_r (nI_1 i) (ih (i + 1) _ (by omega) (by omega) I L (lt_s hd (fun z => by rw [hb] at z; cases z)))) (fun hb => sx_nameClass (by omega) (nm_r (nI_1 i) ?_))
      exact ih (i + 1) _ (by omega) (by omega) (sm_P1 C h (sm_MLc.1 r i hr hk h hb) I) (sm_le_t L sm_L1) (lt_s (fun c hc hb' => b_orl (hd c hc hb')) (fun _ => b_orr (C.2.2.2.1 i h)))
theorem sx_mark53 {post : SX → Prop} (C : sp_cls nc fc pa ups) (M : sp_mth nc nm fc hm na ln br dc) (U : sp_rul nr rk)
    (K : ∀ (xnd xnh xlv : Int32) (q : Nat) (xqu : Nat → Int32), sm_XI nc nm nr ups hm na ln br op cl nn fd tg rk rc rn ex td ph xnd xmd xnh xlv q s xqu xwt xsi → sm_RU nc nm nr hm na br rk rc rn xnd xnh xlv → ∃ n81, wX_mark_81 post n81 (nI nc) (nI nm) (nI nr) xnd xmd xnh xlv (nI q) (nI s) xbt xft xdp xst xss xpt xtr xsm fc (oF pa) xfs ups (nF hm) (nF na) br (nF ln) (nF op) ic ii xdc xfd (nF rk) rc rn xqu xwt xsi xtg xnw xfa xsg xnn xtk xrl bop bcl bin bsk bme bli bou xnf xfm xfl xfh xou xem xel) :
    ∀ fuel i (xnd xnh xlv : Int32) (q : Nat) (xqu : Nat → Int32), i ≤ nr → nr - i < fuel → sm_XI nc nm nr ups hm na ln br op cl nn fd tg rk rc rn ex td ph xnd xmd xnh xlv q s xqu xwt xsi → sm_RU nc nm i hm na br rk rc rn xnd xnh xlv → wX_mark_53 post fuel (nI i) (nI nc) (nI nm) (nI nr) xnd xmd xnh xlv (nI q) (nI s) xbt xft xdp xst xss xpt xtr xsm fc (oF pa) xfs ups (nF hm) (nF na) br (nF ln) (nF op) ic ii xdc xfd (nF rk) rc rn xqu xwt xsi xtg xnw xfa xsg xnn xtk xrl bop bcl bin bsk bme bli bou xnf xfm xfl xfh xou xem xel := by
  intro fuel
  induction fuel with
  | zero => intro i _ _ _ _ _ _ h; omega
  | succ f ih =>
    intro i xnd xnh xlv q xqu hi hf I R
    have h4 := U.1
    rw [wX_mark_53]
    refine pk_le nr i (fun h => ?_) (fun h => ⟨vp_in_nI (by omega) (by decide), ?_⟩)
    · have e : i = nr := by omega
      rw [e] at R
      exact K _ _ _ _ _ I R
    · have hk2 := U.2 i h
      rw [nI_clamp (n := i) (by omega), nF_a]
      refine pk_eq (rk i) 0 (fun hk => ⟨nc + 1, ?_⟩) (fun hk => nm_r (nI_1 i) (ih (i + 1) _ _ _ _ _ (by omega) (by omega) I ?_))
      · rw [← nI_0]
        refine sx_root2 C M h4 h hk (fun xnd' xnh' xlv' q' xqu' I' L' h1 h2 => nm_r (nI_1 i) (ih (i + 1) _ _ _ _ _ (by omega) (by omega) I' ⟨fun x c hx => ?_, fun x m hx => ?_⟩)) (nc + 1) 0 _ (by omega) (by omega) I sm_le_r (fun c hc => by omega)
        · intro a b d
          by_cases z : x = i
          · rw [z] at d; exact h1 c b d
          · exact L'.1 _ (R.1 x c (by omega) a b d)
        · intro a b d e
          by_cases z : x = i
          · rw [z] at d e; exact h2 m b d e
          · have := R.2 x m (by omega) a b d e
            exact ⟨L'.2.2.1 _ this.1, fun y => L'.2.2.2.1 _ (this.2 y)⟩
      · refine ⟨fun x c hx a b d => ?_, fun x m hx a b d e => ?_⟩
        · by_cases z : x = i
          · rw [z] at a; exact absurd a hk
          · exact R.1 x c (by omega) a b d
        · by_cases z : x = i
          · rw [z] at a; exact absurd a hk
          · exact R.2 x m (by omega) a b d e
/-- the sets that marking gives -/
def sm_XR (nc nm nr : Nat) (ups : Nat → Int32) (hm na ln : Nat → Nat) (br : Nat → Int32) (op cl nn : Nat → Nat) (fd : Nat → Nat → Option Nat) (tg : Nat → Option Nat) (rk : Nat → Nat) (rc rn : Nat → Int32) (nd md nh lv : Int32) : Prop :=
  (∀ x, bt nd x = true ↔ sm_ML nc nm nr ups hm na ln br op cl nn fd tg rk rc rn 0 x) ∧ (∀ x, bt md x = true ↔ sm_ML nc nm nr ups hm na ln br op cl nn fd tg rk rc rn 1 x) ∧ (∀ x, (bt lv x = true ∨ bt nh x = true) ↔ sm_ML nc nm nr ups hm na ln br op cl nn fd tg rk rc rn 2 x) ∧ (∀ x, bt lv x = true ↔ sm_ML nc nm nr ups hm na ln br op cl nn fd tg rk rc rn 3 x)
theorem sx_mark32 {post : SX → Prop} (C : sp_cls nc fc pa ups) (M : sp_mth nc nm fc hm na ln br dc) (N : sp_ins nm ln op cl nn ic ii fs sc) (U : sp_rul nr rk) (F : sp_fd nc pa fc ups hm dc fd) (W : sp_ok nc nm fc br ln op cl nn fd) (A : ∀ a b, a < nc → b < 10 → xfd (10 * a + b) = oI (fd a b)) (T : ∀ m k, m < nm → k < ln m → xtg (6 * m + k) = oI (tg (6 * m + k)) ∧ ∀ t, tg (6 * m + k) = some t → t < 128)
    (K : ∀ (xnd xmd xnh xlv xq xs : Int32) (xqu xwt xsi : Nat → Int32), sm_XR nc nm nr ups hm na ln br op cl nn fd tg rk rc rn xnd xmd xnh xlv → post ((nI nc), (nI nm), (nI nr), xnd, xmd, xnh, xlv, xq, xs, xbt, xft, xdp, xst, xss, xpt, xtr, xsm, fc, (oF pa), xfs, ups, (nF hm), (nF na), br, (nF ln), (nF op), ic, ii, xdc, xfd, (nF rk), rc, rn, xqu, xwt, xsi, xtg, xnw, xfa, xsg, xnn, xtk, xrl, bop, bcl, bin, bsk, bme, bli, bou, xnf, xfm, xfl, xfh, xou, xem, xel)) :
    ∀ fuel i (xwt : Nat → Int32), i ≤ 100 → 100 - i < fuel → (∀ k, k < i → xwt k = 0) → wX_mark_32 post (nI nc) (nI nm) (nI nr) 0 0 0 0 0 0 xbt xft xdp xst xss xpt xtr xsm fuel (nI i) fc (oF pa) xfs ups (nF hm) (nF na) br (nF ln) (nF op) ic ii xdc xfd (nF rk) rc rn xqu xwt xsi xtg xnw xfa xsg xnn xtk xrl bop bcl bin bsk bme bli bou xnf xfm xfl xfh xou xem xel := by
  intro fuel
  induction fuel with
  | zero => intro i _ _ h; omega
  | succ f ih =>
    intro i xwt hi hf hz
    rw [wX_mark_32]
    refine pk_le 100 i (fun h => ⟨nr + 1, ?_⟩) (fun h => ⟨vp_in_nI h (by decide), ?_⟩)
    · have hz' : ∀ k, k < 100 → xwt k = 0 := fun k hk => hz k (by omega)
      have b0 : ∀ x, ¬ bt 0 x = true := fun x => by rw [b_0]; decide
      have I0 : sm_XI nc nm nr ups hm na ln br op cl nn fd tg rk rc rn (fun _ _ => False) (fun _ _ => False) 0 0 0 0 0 0 0 xqu xwt xsi := by
        refine ⟨⟨fun c z => absurd z (b0 _), fun c z => absurd z (b0 _), fun c z => absurd z (b0 _), fun c z => absurd z (b0 _), fun c a z => absurd z (b0 _), fun c z => absurd z (b0 _), fun c z => absurd z (b0 _)⟩, ⟨fun j hj => by omega, ?_⟩, ⟨?_, fun j hj => by omega, fun k hk z => absurd (hz' k hk) z⟩, ⟨fun c n hc hn z => absurd (hz' _ (by omega)) z, fun c n d g hc hn z => absurd (hz' _ (by omega)) z⟩, fun m z => absurd z (b0 _)⟩
        · rw [cn_eq (Q := fun _ => False) (fun k _ => ⟨fun z => b0 _ z, fun z => z.elim⟩), cn_F]
        · rw [cn_eq (Q := fun _ => False) (fun k hk => ⟨fun z => z (hz' k hk), fun z => z.elim⟩), cn_F]
      have hN : ∀ m k, m < nm → k < ln m → op (6 * m + k) = 2 ∨ op (6 * m + k) = 3 → nn (6 * m + k) < 10 := fun m k h1 h2 h3 => ((N m k h1 h2).2.2.2.2.1 h3).2.2
      have KK : ∀ (xnd xnh xlv : Int32) (q : Nat) (xqu : Nat → Int32), sm_XI nc nm nr ups hm na ln br op cl nn fd tg rk rc rn (fun _ _ => False) (fun _ _ => False) 0 xnd 0 xnh xlv q 0 xqu xwt xsi → sm_RU nc nm nr hm na br rk rc rn xnd xnh xlv → ∃ n81, wX_mark_81 post n81 (nI nc) (nI nm) (nI nr) xnd 0 xnh xlv (nI q) (nI 0) xbt xft xdp xst xss xpt xtr xsm fc (oF pa) xfs ups (nF hm) (nF na) br (nF ln) (nF op) ic ii xdc xfd (nF rk) rc rn xqu xwt xsi xtg xnw xfa xsg xnn xtk xrl bop bcl bin bsk bme bli bou xnf xfm xfl xfh xou xem xel := by
        intro xnd xnh xlv q xqu I R
        refine ⟨31, sx_mark81 C M N F W A T (fun ph xnd xmd xnh xlv s xqu xwt xsi I' R' => K _ _ _ _ _ _ _ _ _ ?_) 31 0 _ _ _ _ _ _ _ _ _ (by omega) I R⟩
        have hc := sm_end C M hN W I' R'
        obtain ⟨a1, a2, a3, a4, a5, a6, a7⟩ := I'.1
        refine ⟨fun x => ⟨a1 x, fun z => (z _ hc).1 rfl⟩, fun x => ⟨a2 x, fun z => (z _ hc).2.1 rfl⟩, fun x => ⟨fun z => z.elim (fun y => ?_) (a3 x), fun z => (z _ hc).2.2.1 rfl⟩, fun x => ⟨a4 x, fun z => (z _ hc).2.2.2 rfl⟩⟩
        have := a4 x y
        exact sm_MLc.2.2.2.1 x ((sm_rng C M F W this).2.2 rfl).1 this
      exact sx_mark53 C M U KK (nr + 1) 0 0 0 0 0 xqu (by omega) (by omega) I0 ⟨fun r c hr => by omega, fun r m hr => by omega⟩
    · rw [nI_clamp (by omega), sd_bo0]
      refine nm_e (nm_r (nI_1 i) (ih (i + 1) _ (by omega) (by omega) (fun k hk => ?_)))
      by_cases z : k = i
      · rw [z, pk_us]
      · rw [pk_un z]; exact hz k (by omega)
theorem sx_mark {post : SX → Prop} (C : sp_cls nc fc pa ups) (M : sp_mth nc nm fc hm na ln br dc) (N : sp_ins nm ln op cl nn ic ii fs sc) (U : sp_rul nr rk) (F : sp_fd nc pa fc ups hm dc fd) (W : sp_ok nc nm fc br ln op cl nn fd) (A : ∀ a b, a < nc → b < 10 → xfd (10 * a + b) = oI (fd a b)) (T : ∀ m k, m < nm → k < ln m → xtg (6 * m + k) = oI (tg (6 * m + k)) ∧ ∀ t, tg (6 * m + k) = some t → t < 128)
    (K : ∀ (xnd xmd xnh xlv xq xs : Int32) (xqu xwt xsi : Nat → Int32), sm_XR nc nm nr ups hm na ln br op cl nn fd tg rk rc rn xnd xmd xnh xlv → post ((nI nc), (nI nm), (nI nr), xnd, xmd, xnh, xlv, xq, xs, xbt, xft, xdp, xst, xss, xpt, xtr, xsm, fc, (oF pa), xfs, ups, (nF hm), (nF na), br, (nF ln), (nF op), ic, ii, xdc, xfd, (nF rk), rc, rn, xqu, xwt, xsi, xtg, xnw, xfa, xsg, xnn, xtk, xrl, bop, bcl, bin, bsk, bme, bli, bou, xnf, xfm, xfl, xfh, xou, xem, xel)) : wpX_mark post ((nI nc), (nI nm), (nI nr), xnd, xmd, xnh, xlv, xq, xs, xbt, xft, xdp, xst, xss, xpt, xtr, xsm, fc, (oF pa), xfs, ups, (nF hm), (nF na), br, (nF ln), (nF op), ic, ii, xdc, xfd, (nF rk), rc, rn, xqu, xwt, xsi, xtg, xnw, xfa, xsg, xnn, xtk, xrl, bop, bcl, bin, bsk, bme, bli, bou, xnf, xfm, xfl, xfh, xou, xem, xel) :=
  ⟨101, sx_mark32 C M N U F W A T K 101 0 xwt (by omega) (by omega) (fun k hk => by omega)⟩
end
end
section
/-! the reference's marking: passes until nothing changes -/
def z0 : Nat → Int32 := fun _ => 0
def sm_YS (nc nm nr : Nat) (ups : Nat → Int32) (hm na ln : Nat → Nat) (br : Nat → Int32) (op cl nn : Nat → Nat) (fd : Nat → Nat → Option Nat) (tg : Nat → Option Nat) (rk : Nat → Nat) (rc rn : Nat → Int32) (nd md nh lv : Int32) : Prop :=
  (∀ c, bt nd c = true → sm_ML nc nm nr ups hm na ln br op cl nn fd tg rk rc rn 0 c) ∧ (∀ c, bt md c = true → sm_ML nc nm nr ups hm na ln br op cl nn fd tg rk rc rn 1 c) ∧ (∀ m, bt nh m = true → sm_ML nc nm nr ups hm na ln br op cl nn fd tg rk rc rn 2 m) ∧ (∀ m, bt lv m = true → sm_ML nc nm nr ups hm na ln br op cl nn fd tg rk rc rn 3 m) ∧ (∀ m, bt lv m = true → bt nh m = true)
def sm_FY (nc : Nat) (ups : Nat → Int32) (br : Nat → Int32) (op cl nn : Nat → Nat) (fd : Nat → Nat → Option Nat) (tg : Nat → Option Nat) (md0 nd md nh lv : Int32) (i : Nat) : Prop :=
  (op i ≠ 0 → op i ≠ 5 → (op i = 3 → tg i = none) → bt nd (cl i) = true) ∧ (op i = 1 → bt md (cl i) = true) ∧
  (op i = 2 → tg i = none → ∀ g, fd (cl i) (nn i) = some g → bt nh g = true) ∧
  (op i = 3 → tg i = none → ∀ g, fd (cl i) (nn i) = some g → bt lv g = true) ∧
  (op i = 2 → tg i = none → ∀ d g, d < nc → bt md0 d = true → bt (ups d) (cl i) = true → fd d (nn i) = some g → bt nh g = true ∧ (br g = 0 → bt lv g = true))
/-- what one pass does to the sets -/
def sm_ST (nc nm : Nat) (ups : Nat → Int32) (hm ln : Nat → Nat) (br : Nat → Int32) (op cl nn : Nat → Nat) (fd : Nat → Nat → Option Nat) (tg : Nat → Option Nat) (nd md nh lv nd' md' nh' lv' : Int32) : Prop :=
  (∀ m, m < nm → bt nh m = true → bt nd' (hm m) = true) ∧ (∀ c a, c < nc → bt nd c = true → bt (ups c) a = true → bt nd' a = true) ∧
  (∀ m k, m < nm → bt lv m = true → k < ln m → sm_FY nc ups br op cl nn fd tg md nd' md' nh' lv' (6 * m + k))
noncomputable def sm_mu (nd md nh lv : Int32) : Nat := cn (fun x => bt nd x = true) 10 + cn (fun x => bt md x = true) 10 + cn (fun x => bt nh x = true) 30 + cn (fun x => bt lv x = true) 30
theorem sm_mu80 (nd md nh lv : Int32) : sm_mu nd md nh lv ≤ 80 := by
  have h1 := cn_le (fun x => bt nd x = true) 10
  have h2 := cn_le (fun x => bt md x = true) 10
  have h3 := cn_le (fun x => bt nh x = true) 30
  have h4 := cn_le (fun x => bt lv x = true) 30
  unfold sm_mu
  omega
theorem cn_bit {x y : Int32} {N : Nat} (h : ∀ i, bt x i = true → bt y i = true) (hy : ∀ i, bt y i = true → i < N) : cn (fun i => bt x i = true) N ≤ cn (fun i => bt y i = true) N ∧ (x ≠ y → cn (fun i => bt x i = true) N < cn (fun i => bt y i = true) N) := by
  refine ⟨cn_mono (fun k _ => h k), fun hne => ?_⟩
  have : ∃ i, bt y i = true ∧ ¬ bt x i = true := by
    refine Classical.byContradiction (fun z => hne (b_iff (fun i _ => ⟨h i, fun w => ?_⟩)))
    exact Classical.byContradiction (fun v => z ⟨i, w, v⟩)
  obtain ⟨i, i1, i2⟩ := this
  exact cn_lt (a := i) i2 i1 (fun k _ => h k) (hy i i1)
section
variable {nc nm nr : Nat} {ups : Nat → Int32} {hm na ln : Nat → Nat} {br : Nat → Int32} {op cl nn : Nat → Nat} {fd : Nat → Nat → Option Nat} {tg : Nat → Option Nat} {rk : Nat → Nat} {rc rn : Nat → Int32} {fc : Nat → Int32} {pa : Nat → Option Nat} {dc : Nat → Nat → Option Nat}
variable {nd md nh lv nd' md' nh' lv' : Int32}
theorem sm_mul (C : sp_cls nc fc pa ups) (M : sp_mth nc nm fc hm na ln br dc) (F : sp_fd nc pa fc ups hm dc fd) (W : sp_ok nc nm fc br ln op cl nn fd) (I : sm_YS nc nm nr ups hm na ln br op cl nn fd tg rk rc rn nd' md' nh' lv') (L : sm_le nd md nh lv z0 nd' md' nh' lv' z0) (hne : ¬ (nd = nd' ∧ md = md' ∧ nh = nh' ∧ lv = lv')) : sm_mu nd md nh lv < sm_mu nd' md' nh' lv' := by
  have h10 := C.1
  have h30 := M.1
  obtain ⟨a1, b1⟩ := cn_bit (N := 10) L.1 (fun i hi => by have := (sm_rng C M F W (I.1 i hi)).1 (Or.inl rfl); omega)
  obtain ⟨a2, b2⟩ := cn_bit (N := 10) L.2.1 (fun i hi => by have := (sm_rng C M F W (I.2.1 i hi)).1 (Or.inr rfl); omega)
  obtain ⟨a3, b3⟩ := cn_bit (N := 30) L.2.2.1 (fun i hi => by have := (sm_rng C M F W (I.2.2.1 i hi)).2.1 rfl; omega)
  obtain ⟨a4, b4⟩ := cn_bit (N := 30) L.2.2.2.1 (fun i hi => by have := ((sm_rng C M F W (I.2.2.2.1 i hi)).2.2 rfl).1; omega)
  unfold sm_mu
  by_cases e1 : nd = nd'
  · by_cases e2 : md = md'
    · by_cases e3 : nh = nh'
      · by_cases e4 : lv = lv'
        · exact absurd ⟨e1, e2, e3, e4⟩ hne
        · have := b4 e4; omega
      · have := b3 e3; omega
    · have := b2 e2; omega
  · have := b1 e1; omega
theorem sm_FYm {md0 md1 : Int32} {i : Nat} (L : sm_le nd md nh lv z0 nd' md' nh' lv' z0) (h0 : ∀ x, bt md1 x = true → bt md0 x = true) (h : sm_FY nc ups br op cl nn fd tg md0 nd md nh lv i) : sm_FY nc ups br op cl nn fd tg md1 nd' md' nh' lv' i :=
  ⟨fun a b c => L.1 _ (h.1 a b c), fun a => L.2.1 _ (h.2.1 a), fun a b g hg => L.2.2.1 _ (h.2.2.1 a b g hg), fun a b g hg => L.2.2.2.1 _ (h.2.2.2.1 a b g hg), fun a b d g hd h1 h2 h3 => ⟨L.2.2.1 _ (h.2.2.2.2 a b d g hd (h0 d h1) h2 h3).1, fun z => L.2.2.2.1 _ ((h.2.2.2.2 a b d g hd (h0 d h1) h2 h3).2 z)⟩⟩
theorem sm_yend (I : sm_YS nc nm nr ups hm na ln br op cl nn fd tg rk rc rn nd md nh lv) (S : sm_ST nc nm ups hm ln br op cl nn fd tg nd md nh lv nd md nh lv) (R : sm_RU nc nm nr hm na br rk rc rn nd nh lv) : sm_cl nc nm nr ups hm na ln br op cl nn fd tg rk rc rn (sm_QX nd md nh lv) := by
  refine ⟨?_, ?_, ?_, ?_, ?_, ?_⟩
  · intro r c x1 x2 x3 x4
    exact ⟨fun _ => R.1 r c x1 x2 x3 x4, fun z => by omega, fun z => by omega, fun z => by omega⟩
  · intro r m x1 x2 x3 x4 x5
    have y := R.2 r m x1 x2 x3 x4 x5
    exact ⟨⟨fun z => by omega, fun z => by omega, fun _ => Or.inr y.1, fun z => by omega⟩, fun hb => ⟨fun z => by omega, fun z => by omega, fun _ => Or.inl (y.2 hb), fun _ => y.2 hb⟩⟩
  · intro m x1 x2
    exact ⟨fun _ => S.1 m x1 ((x2.2.2.1 rfl).elim (I.2.2.2.2 m) id), fun z => by omega, fun z => by omega, fun z => by omega⟩
  · intro m x1 x2
    exact ⟨fun z => by omega, fun z => by omega, fun _ => Or.inl (x2.2.2.2 rfl), fun z => by omega⟩
  · intro c a x1 x2 x3
    exact ⟨fun _ => S.2.1 c a x1 (x2.1 rfl) x3, fun z => by omega, fun z => by omega, fun z => by omega⟩
  · intro m k x1 x2 x3
    obtain ⟨f1, f2, f3, f4, f5⟩ := S.2.2 m k x1 (x2.2.2.2 rfl) x3
    refine ⟨?_, ?_, ?_, ?_, ?_⟩
    · intro b1 b2 b3
      exact ⟨fun _ => f1 b1 b2 b3, fun z => by omega, fun z => by omega, fun z => by omega⟩
    · intro b1
      exact ⟨fun z => by omega, fun _ => f2 b1, fun z => by omega, fun z => by omega⟩
    · intro b1 b2 g hg
      exact ⟨fun z => by omega, fun z => by omega, fun _ => Or.inr (f3 b1 b2 g hg), fun z => by omega⟩
    · intro b1 b2 g hg
      exact ⟨fun z => by omega, fun z => by omega, fun _ => Or.inl (f4 b1 b2 g hg), fun _ => f4 b1 b2 g hg⟩
    · intro b1 b2 d g hd h1 h2 h3
      have y := f5 b1 b2 d g hd (h1.2.1 rfl) h2 h3
      exact ⟨⟨fun z => by omega, fun z => by omega, fun _ => Or.inr y.1, fun z => by omega⟩, fun hb => ⟨fun z => by omega, fun z => by omega, fun _ => Or.inl (y.2 hb), fun _ => y.2 hb⟩⟩
theorem sm_yXR (C : sp_cls nc fc pa ups) (M : sp_mth nc nm fc hm na ln br dc) (F : sp_fd nc pa fc ups hm dc fd) (W : sp_ok nc nm fc br ln op cl nn fd) (I : sm_YS nc nm nr ups hm na ln br op cl nn fd tg rk rc rn nd md nh lv) (S : sm_ST nc nm ups hm ln br op cl nn fd tg nd md nh lv nd md nh lv) (R : sm_RU nc nm nr hm na br rk rc rn nd nh lv) : sm_XR nc nm nr ups hm na ln br op cl nn fd tg rk rc rn nd md nh lv := by
  have hc := sm_yend I S R
  obtain ⟨a1, a2, a3, a4, a5⟩ := I
  exact ⟨fun x => ⟨a1 x, fun z => (z _ hc).1 rfl⟩, fun x => ⟨a2 x, fun z => (z _ hc).2.1 rfl⟩, fun x => ⟨fun z => z.elim (fun y => a3 x (a5 x y)) (a3 x), fun z => (z _ hc).2.2.1 rfl⟩, fun x => ⟨a4 x, fun z => (z _ hc).2.2.2 rfl⟩⟩
end
end
section
/-! the reference's marking: its walks -/
theorem b_mask : ∀ n, n < 11 → ∀ i, i < 32 → bt (((1 : Int32) <<< (nI n &&& 31)) - 1) i = decide (i < n) := by decide +kernel
section
variable {nc nm nr : Nat} {pa : Nat → Option Nat} {hm na ln op rk cl nn : Nat → Nat} {fc ups br ic ii fs sc rc rn : Nat → Int32} {dc fd : Nat → Nat → Option Nat}
variable {xnd xmd xnh xlv xq xs xbt xft xdp xst xss xpt xtr xsm : Int32} {xfs xdc xfd xqu xwt xsi xtg xnw xfa xsg xnn xtk xrl bop bcl bin bsk bme bli bou xnf xfm xfl xfh xou xem xel : Nat → Int32}
variable {ypl ynd ymd ynh ylv ybt ydp yst yot yen : Int32} {yow yma yil ynu ynn yfa yvm yvl yvh ypu : Nat → Int32}
variable {tg : Nat → Option Nat}
theorem sy_reach1 {post : SY → Prop} {g : Nat} (M : sp_mth nc nm fc hm na ln br dc) (hg : g < nm) (h2 : sm_ML nc nm nr ups hm na ln br op cl nn fd tg rk rc rn 2 g) (h3 : br g = 0 → sm_ML nc nm nr ups hm na ln br op cl nn fd tg rk rc rn 3 g) (I : sm_YS nc nm nr ups hm na ln br op cl nn fd tg rk rc rn ynd ymd ynh ylv)
    (K : ∀ ynh' ylv' : Int32, sm_YS nc nm nr ups hm na ln br op cl nn fd tg rk rc rn ynd ymd ynh' ylv' → sm_le ynd ymd ynh ylv z0 ynd ymd ynh' ylv' z0 → bt ynh' g = true → (br g = 0 → bt ylv' g = true) → post ((nI nc), (nI nm), (nI nr), ypl, ynd, ymd, ynh', ylv', ybt, ydp, yst, yot, yen, fc, br, (oF pa), ups, yow, yma, (nF hm), (nF na), (nF ln), (nF op), fs, sc, (nF rk), rc, rn, yil, ynu, ynn, yfa, yvm, yvl, yvh, ypu)) : wpY_reach post ((nI nc), (nI nm), (nI nr), ypl, ynd, ymd, ynh, ylv, ybt, ydp, yst, yot, yen, fc, br, (oF pa), ups, yow, yma, (nF hm), (nF na), (nF ln), (nF op), fs, sc, (nF rk), rc, rn, yil, ynu, ynn, yfa, yvm, yvl, yvh, ypu) (nI g) 1 := by
  have h30 := M.1
  have g32 : g < 32 := by omega
  obtain ⟨a1, a2, a3, a4, a5⟩ := I
  have b3 : ∀ m, bt (ynh ||| ((1 : Int32) <<< (nI g &&& 31))) m = true → sm_ML nc nm nr ups hm na ln br op cl nn fd tg rk rc rn 2 m := fun m z => (b_or1i g32 z).elim (a3 m) (fun y => by rw [y]; exact h2)
  unfold wpY_reach
  dsimp only
  refine nm_e (br_f (by decide) ⟨vp_in_nI (by omega) (by decide), ?_⟩)
  rw [nI_clamp (by omega)]
  refine br_c (fun z => nm_e (K _ _ ⟨a1, a2, b3, fun m y => (b_or1i g32 y).elim (a4 m) (fun y => by rw [y]; exact h3 z), fun m y => (b_or1i g32 y).elim (fun y => b_or1o g32 (a5 m y)) (fun y => by rw [y]; exact b_or1s g32)⟩ ⟨fun _ y => y, fun _ y => y, fun _ y => b_or1o g32 y, fun _ y => b_or1o g32 y, fun _ y => y⟩ (b_or1s g32) (fun _ => b_or1s g32))) (fun z => ?_)
  exact K _ _ ⟨a1, a2, b3, a4, fun m y => b_or1o g32 (a5 m y)⟩ ⟨fun _ y => y, fun _ y => y, fun _ y => b_or1o g32 y, fun _ y => y, fun _ y => y⟩ (b_or1s g32) (fun y => absurd y z)
theorem sy_reach0 {post : SY → Prop} {g : Nat} (hg : g < 32) (h2 : sm_ML nc nm nr ups hm na ln br op cl nn fd tg rk rc rn 2 g) (I : sm_YS nc nm nr ups hm na ln br op cl nn fd tg rk rc rn ynd ymd ynh ylv)
    (K : ∀ ynh' : Int32, sm_YS nc nm nr ups hm na ln br op cl nn fd tg rk rc rn ynd ymd ynh' ylv → sm_le ynd ymd ynh ylv z0 ynd ymd ynh' ylv z0 → bt ynh' g = true → post ((nI nc), (nI nm), (nI nr), ypl, ynd, ymd, ynh', ylv, ybt, ydp, yst, yot, yen, fc, br, (oF pa), ups, yow, yma, (nF hm), (nF na), (nF ln), (nF op), fs, sc, (nF rk), rc, rn, yil, ynu, ynn, yfa, yvm, yvl, yvh, ypu)) : wpY_reach post ((nI nc), (nI nm), (nI nr), ypl, ynd, ymd, ynh, ylv, ybt, ydp, yst, yot, yen, fc, br, (oF pa), ups, yow, yma, (nF hm), (nF na), (nF ln), (nF op), fs, sc, (nF rk), rc, rn, yil, ynu, ynn, yfa, yvm, yvl, yvh, ypu) (nI g) 0 := by
  obtain ⟨a1, a2, a3, a4, a5⟩ := I
  unfold wpY_reach
  dsimp only
  exact nm_e (br_t rfl (K _ ⟨a1, a2, fun m z => (b_or1i hg z).elim (a3 m) (fun y => by rw [y]; exact h2), a4, fun m y => b_or1o hg (a5 m y)⟩ ⟨fun _ y => y, fun _ y => y, fun _ y => b_or1o hg y, fun _ y => y, fun _ y => y⟩ (b_or1s hg)))
theorem sy_follow119 {post : SY → Prop} {i : Nat} (C : sp_cls nc fc pa ups) (M : sp_mth nc nm fc hm na ln br dc) (F : sp_fd nc pa fc ups hm dc fd) (hi : i < 180) (hc : cl i < nc) (hs : sc i = nI (nn i)) (hn : nn i < 10) {g0 : Nat} (hg0 : fd (cl i) (nn i) = some g0)
    (hS : ∀ d g, d < nc → sm_ML nc nm nr ups hm na ln br op cl nn fd tg rk rc rn 1 d → bt (ups d) (cl i) = true → fd d (nn i) = some g → sm_ML nc nm nr ups hm na ln br op cl nn fd tg rk rc rn 2 g ∧ (br g = 0 → sm_ML nc nm nr ups hm na ln br op cl nn fd tg rk rc rn 3 g)) {ynh0 ylv0 : Int32}
    (K : ∀ ynh ylv : Int32, sm_YS nc nm nr ups hm na ln br op cl nn fd tg rk rc rn ynd ymd ynh ylv → sm_le ynd ymd ynh0 ylv0 z0 ynd ymd ynh ylv z0 → (∀ d g, d < nc → bt ymd d = true → bt (ups d) (cl i) = true → fd d (nn i) = some g → bt ynh g = true ∧ (br g = 0 → bt ylv g = true)) → post ((nI nc), (nI nm), (nI nr), ypl, ynd, ymd, ynh, ylv, ybt, ydp, yst, yot, yen, fc, br, (oF pa), ups, yow, yma, (nF hm), (nF na), (nF ln), (nF op), fs, sc, (nF rk), rc, rn, yil, ynu, ynn, yfa, yvm, yvl, yvh, ypu)) :
    ∀ fuel j (ynh ylv : Int32), j ≤ nc → nc - j < fuel → sm_YS nc nm nr ups hm na ln br op cl nn fd tg rk rc rn ynd ymd ynh ylv → sm_le ynd ymd ynh0 ylv0 z0 ynd ymd ynh ylv z0 → (∀ d, d < j → ∀ g, bt ymd d = true → bt (ups d) (cl i) = true → fd d (nn i) = some g → bt ynh g = true ∧ (br g = 0 → bt ylv g = true)) → wY_follow_119 post (nI i) 2 (nI (cl i)) fuel (nI j) (nI nc) (nI nm) (nI nr) ypl ynd ymd ynh ylv ybt ydp yst yot yen fc br (oF pa) ups yow yma (nF hm) (nF na) (nF ln) (nF op) fs sc (nF rk) rc rn yil ynu ynn yfa yvm yvl yvh ypu := by
  intro fuel
  induction fuel with
  | zero => intro j _ _ _ h; omega
  | succ f ih =>
    intro j ynh ylv hj hf I L hd
    have h10 := C.1
    have h30 := M.1
    rw [wY_follow_119]
    refine pk_le nc j (fun h => K _ _ I L (fun d g hd' => hd d (by omega) g)) (fun h => br_t rfl ?_)
    have hskip : (bt ymd j = true → bt (ups j) (cl i) = true → False) → ∀ y, y = nI j + 1 → wY_follow_119 post (nI i) 2 (nI (cl i)) f y (nI nc) (nI nm) (nI nr) ypl ynd ymd ynh ylv ybt ydp yst yot yen fc br (oF pa) ups yow yma (nF hm) (nF na) (nF ln) (nF op) fs sc (nF rk) rc rn yil ynu ynn yfa yvm yvl yvh ypu := fun hne =>
      nm_r (nI_1 j) (ih (j + 1) _ _ (by omega) (by omega) I L (lt_s hd (fun g a b _ => (hne a b).elim)))
    rw [nI_clamp (n := j) (by omega), nI_clamp (n := i) (by omega), hs]
    refine yh_b (by omega) (fun hb => hskip (fun z => by rw [hb] at z; cases z)) (fun hb => ⟨vp_in_nI (by omega) (by decide), yh_b (by omega) (fun hb2 => hskip (fun _ z => by rw [hb2] at z; cases z)) (fun hb2 => ⟨vp_in_nI hi (by decide), ?_⟩)⟩)
    obtain ⟨g, hg⟩ := sp_below C M F h hb2 hg0
    have hgm := (sp_sound C M F j _ g h hg).1
    obtain ⟨m2, m3⟩ := hS j g h (I.2.1 j hb) hb2 hg
    refine sy_finds C M F h hn ?_
    rw [hg]
    refine sy_reach1 M hgm m2 m3 I (fun ynh' ylv' I' L' e1 e2 => nm_r (nI_1 j) (ih (j + 1) _ _ (by omega) (by omega) I' (sm_le_t L L') (lt_s (fun d hd' g' a b c => ?_) (fun g' a b c => ?_))))
    · have := hd d hd' g' a b c
      exact ⟨L'.2.2.1 _ this.1, fun z => L'.2.2.2.1 _ (this.2 z)⟩
    · rw [hg] at c; cases c; exact ⟨e1, e2⟩
theorem sy_follow67 {post : SY → Prop} {m k : Nat} (C : sp_cls nc fc pa ups) (M : sp_mth nc nm fc hm na ln br dc) (N : sp_ins nm ln op cl nn ic ii fs sc) (F : sp_fd nc pa fc ups hm dc fd) (W : sp_ok nc nm fc br ln op cl nn fd) (hm' : m < nm) (hk : k < ln m) (hL : sm_ML nc nm nr ups hm na ln br op cl nn fd tg rk rc rn 3 m)
    (hT : yil (6 * m + k) = oI (tg (6 * m + k))) (hT2 : ∀ t, tg (6 * m + k) = some t → t < 128) (h0 : op (6 * m + k) ≠ 0) (h5 : op (6 * m + k) ≠ 5) (I : sm_YS nc nm nr ups hm na ln br op cl nn fd tg rk rc rn ynd ymd ynh ylv)
    (K : ∀ ynh' ylv' : Int32, sm_YS nc nm nr ups hm na ln br op cl nn fd tg rk rc rn ynd ymd ynh' ylv' → sm_le ynd ymd ynh ylv z0 ynd ymd ynh' ylv' z0 → 
      (op (6 * m + k) = 2 → tg (6 * m + k) = none → ∀ g, fd (cl (6 * m + k)) (nn (6 * m + k)) = some g → bt ynh' g = true) →
      (op (6 * m + k) = 3 → tg (6 * m + k) = none → ∀ g, fd (cl (6 * m + k)) (nn (6 * m + k)) = some g → bt ylv' g = true) →
      (op (6 * m + k) = 2 → tg (6 * m + k) = none → ∀ d g, d < nc → bt ymd d = true → bt (ups d) (cl (6 * m + k)) = true → fd d (nn (6 * m + k)) = some g → bt ynh' g = true ∧ (br g = 0 → bt ylv' g = true)) → post ((nI nc), (nI nm), (nI nr), ypl, ynd, ymd, ynh', ylv', ybt, ydp, yst, yot, yen, fc, br, (oF pa), ups, yow, yma, (nF hm), (nF na), (nF ln), (nF op), fs, sc, (nF rk), rc, rn, yil, ynu, ynn, yfa, yvm, yvl, yvh, ypu)) :
    wY_follow_67 post (nI (6 * m + k)) (nI (op (6 * m + k))) (nI (cl (6 * m + k))) (nI nc) (nI nm) (nI nr) ypl ynd ymd ynh ylv ybt ydp yst yot yen fc br (oF pa) ups yow yma (nF hm) (nF na) (nF ln) (nF op) fs sc (nF rk) rc rn yil ynu ynn yfa yvm yvl yvh ypu := by
  have h30 := M.1
  have h10 := C.1
  have hl := (M.2.1 m hm').2.2.1
  have hc := sp_okc W hm' hk h0 h5
  obtain ⟨n1, n2, n3, n4, n5, n6⟩ := N m k hm' hk
  obtain ⟨l1, l2, l3, l4, l5⟩ := sm_MLc.2.2.2.2.2 m k hm' hL hk
  have okf := sp_okf W hm' hk
  have hi : 6 * m + k < 180 := by omega
  generalize hie : 6 * m + k = i at *
  have hv : vp_in (nI i) 180 := vp_in_nI hi (by decide)
  unfold wY_follow_67
  refine pk_eq (op i) 4 (fun o4 => K _ _ I sm_le_r (fun z => by omega) (fun z => by omega) (fun z => by omega)) (fun o4 => pk_eq (op i) 1 (fun o1 => K _ _ I sm_le_r (fun z => by omega) (fun z => by omega) (fun z => by omega)) (fun o1 => ⟨hv, ?_⟩))
  have o23 : op i = 2 ∨ op i = 3 := by omega
  obtain ⟨g, hg, hg3⟩ := okf o23
  obtain ⟨f1, f2, f3⟩ := n5 o23
  have hgm := (sp_sound C M F _ _ g hc hg).1
  rw [nI_clamp (n := i) (by omega), hT]
  cases et : tg i with
  | some t =>
    have := hT2 t et
    refine br_f (nI_pos (by omega)) (K _ _ I sm_le_r (fun _ z => by rw [et] at z; cases z) (fun _ z => by rw [et] at z; cases z) (fun _ z => by rw [et] at z; cases z))
  | none =>
    refine br_t (by decide) ⟨hv, ?_⟩
    rw [f2]
    refine sy_finds C M F hc f3 ?_
    rw [hg]
    refine pk_eq (op i) 3 (fun o3 => ?_) (fun o3 => ?_)
    · unfold wY_follow_113
      have m3 := l4 o3 et g hg
      have m2 := sm_MLc.2.2.2.1 g hgm m3
      refine sy_reach1 M hgm m2 (fun _ => m3) I (fun ynh' ylv' I' L' e1 e2 => ⟨1, ?_⟩)
      rw [wY_follow_119]
      dsimp only
      rw [← nI_0]
      have hK := K _ _ I' L' (fun z => by omega) (fun _ _ g' hg' => by rw [hg] at hg'; cases hg'; exact e2 (hg3 o3)) (fun z => by omega)
      exact br_c (fun _ => hK) (fun _ => br_f (by rw [o3]; decide) hK)
    · have o2 : op i = 2 := by omega
      unfold wY_follow_113
      refine sy_reach0 (by omega) (l3 o2 et g hg) I (fun ynh' I' L' e1 => ⟨nc + 1, ?_⟩)
      rw [← nI_0, o2]
      exact sy_follow119 C M F hi hc f2 f3 hg (fun d g hd a b c => l5 o2 et d g hd a b c) (fun ynh2 ylv2 I2 L2 e2 => K _ _ I2 (sm_le_t L' L2) (fun _ _ g' hg' => by rw [hg] at hg'; cases hg'; exact L2.2.2.1 _ e1) (fun z => by omega) (fun _ _ => e2)) (nc + 1) 0 _ _ (by omega) (by omega) I' sm_le_r (fun d hd => by omega)
theorem sy_follow {post : SY → Prop} {m k : Nat} (C : sp_cls nc fc pa ups) (M : sp_mth nc nm fc hm na ln br dc) (N : sp_ins nm ln op cl nn ic ii fs sc) (F : sp_fd nc pa fc ups hm dc fd) (W : sp_ok nc nm fc br ln op cl nn fd) (hm' : m < nm) (hk : k < ln m) (hL : sm_ML nc nm nr ups hm na ln br op cl nn fd tg rk rc rn 3 m)
    (hT : yil (6 * m + k) = oI (tg (6 * m + k))) (hT2 : ∀ t, tg (6 * m + k) = some t → t < 128) (I : sm_YS nc nm nr ups hm na ln br op cl nn fd tg rk rc rn ynd ymd ynh ylv)
    (K : ∀ ynd' ymd' ynh' ylv' : Int32, sm_YS nc nm nr ups hm na ln br op cl nn fd tg rk rc rn ynd' ymd' ynh' ylv' → sm_le ynd ymd ynh ylv z0 ynd' ymd' ynh' ylv' z0 → sm_FY nc ups br op cl nn fd tg ymd ynd' ymd' ynh' ylv' (6 * m + k) → post ((nI nc), (nI nm), (nI nr), ypl, ynd', ymd', ynh', ylv', ybt, ydp, yst, yot, yen, fc, br, (oF pa), ups, yow, yma, (nF hm), (nF na), (nF ln), (nF op), fs, sc, (nF rk), rc, rn, yil, ynu, ynn, yfa, yvm, yvl, yvh, ypu)) : wpY_follow post ((nI nc), (nI nm), (nI nr), ypl, ynd, ymd, ynh, ylv, ybt, ydp, yst, yot, yen, fc, br, (oF pa), ups, yow, yma, (nF hm), (nF na), (nF ln), (nF op), fs, sc, (nF rk), rc, rn, yil, ynu, ynn, yfa, yvm, yvl, yvh, ypu) (nI (6 * m + k)) := by
  have h30 := M.1
  have h10 := C.1
  have hl := (M.2.1 m hm').2.2.1
  have hN := N m k hm' hk
  have hML := sm_MLc.2.2.2.2.2 m k hm' hL hk
  have hcc := sp_okc W hm' hk
  have hi : 6 * m + k < 180 := by omega
  have hv : vp_in (nI (6 * m + k)) 180 := vp_in_nI hi (by decide)
  obtain ⟨n1, n2, n3, n4, n5, n6⟩ := hN
  obtain ⟨l1, l2, l3, l4, l5⟩ := hML
  unfold wpY_follow
  dsimp only
  rw [nI_clamp (n := 6 * m + k) (by omega), hT]
  refine ⟨hv, nm_r (nF_a op _) ⟨hv, nm_e ?_⟩⟩
  refine pk_eq (op (6 * m + k)) 0 (fun o0 => K _ _ _ _ I sm_le_r ⟨fun a => absurd o0 a, fun z => by omega, fun z => by omega, fun z => by omega, fun z => by omega⟩) (fun o0 => pk_eq (op (6 * m + k)) 5 (fun o5 => K _ _ _ _ I sm_le_r ⟨fun _ a => absurd o5 a, fun z => by omega, fun z => by omega, fun z => by omega, fun z => by omega⟩) (fun o5 => ?_))
  obtain ⟨e1, e2, e3⟩ := n4 o0 o5
  have hc := hcc o0 o5
  have c32 : cl (6 * m + k) < 32 := by omega
  obtain ⟨a1, a2, a3, a4, a5⟩ := I
  have h38 : (op (6 * m + k) = 3 → tg (6 * m + k) = none) → wY_follow_38 post (nI (6 * m + k)) (nI (op (6 * m + k))) (nI (cl (6 * m + k))) (nI nc) (nI nm) (nI nr) ypl ynd ymd ynh ylv ybt ydp yst yot yen fc br (oF pa) ups yow yma (nF hm) (nF na) (nF ln) (nF op) fs sc (nF rk) rc rn yil ynu ynn yfa yvm yvl yvh ypu := by
    intro t3
    have hM0 := l1 o0 o5 t3
    have b1 : ∀ c, bt (ynd ||| ((1 : Int32) <<< (nI (cl (6 * m + k)) &&& 31))) c = true → sm_ML nc nm nr ups hm na ln br op cl nn fd tg rk rc rn 0 c := fun c z => (b_or1i c32 z).elim (a1 c) (fun y => by rw [y]; exact hM0)
    unfold wY_follow_38
    refine nm_e (pk_eq (op (6 * m + k)) 1 (fun o1 => nm_e ?_) (fun o1 => ?_))
    · have b2 : ∀ c, bt (ymd ||| ((1 : Int32) <<< (nI (cl (6 * m + k)) &&& 31))) c = true → sm_ML nc nm nr ups hm na ln br op cl nn fd tg rk rc rn 1 c := fun c z => (b_or1i c32 z).elim (a2 c) (fun y => by rw [y]; exact l2 o1)
      refine sy_follow67 C M N F W hm' hk hL hT hT2 o0 o5 ⟨b1, b2, a3, a4, a5⟩ (fun ynh' ylv' I' L' k2 k3 k4 => K _ _ _ _ I' (sm_le_t ⟨fun _ y => b_or1o c32 y, fun _ y => b_or1o c32 y, fun _ y => y, fun _ y => y, fun _ y => y⟩ L') ⟨fun _ _ _ => b_or1s c32, fun _ => b_or1s c32, k2, k3, fun z => by omega⟩)
    · refine sy_follow67 C M N F W hm' hk hL hT hT2 o0 o5 ⟨b1, a2, a3, a4, a5⟩ (fun ynh' ylv' I' L' k2 k3 k4 => K _ _ _ _ I' (sm_le_t ⟨fun _ y => b_or1o c32 y, fun _ y => y, fun _ y => y, fun _ y => y, fun _ y => y⟩ L') ⟨fun _ _ _ => b_or1s c32, fun z => absurd z o1, k2, k3, k4⟩)
  rw [e2]
  refine pk_eq (op (6 * m + k)) 3 (fun o3 => ⟨hv, ?_⟩) (fun o3 => h38 (fun z => absurd z o3))
  cases et : tg (6 * m + k) with
  | none => exact br_t (by decide) (h38 (fun _ => et))
  | some t =>
    have := hT2 t et
    exact br_f (nI_pos (by omega)) (K _ _ _ _ ⟨a1, a2, a3, a4, a5⟩ sm_le_r ⟨fun _ _ c => by rw [et] at c; exact absurd (c o3) (by simp), fun z => by omega, fun z => by omega, fun _ a => (by rw [et] at a; cases a), fun z => by omega⟩)
theorem sy_followI {post : SY → Prop} {m k i : Nat} (hi : 6 * m + k = i) (C : sp_cls nc fc pa ups) (M : sp_mth nc nm fc hm na ln br dc) (N : sp_ins nm ln op cl nn ic ii fs sc) (F : sp_fd nc pa fc ups hm dc fd) (W : sp_ok nc nm fc br ln op cl nn fd) (hm' : m < nm) (hk : k < ln m) (hL : sm_ML nc nm nr ups hm na ln br op cl nn fd tg rk rc rn 3 m)
    (hT : yil (6 * m + k) = oI (tg (6 * m + k))) (hT2 : ∀ t, tg (6 * m + k) = some t → t < 128) (I : sm_YS nc nm nr ups hm na ln br op cl nn fd tg rk rc rn ynd ymd ynh ylv)
    (K : ∀ ynd' ymd' ynh' ylv' : Int32, sm_YS nc nm nr ups hm na ln br op cl nn fd tg rk rc rn ynd' ymd' ynh' ylv' → sm_le ynd ymd ynh ylv z0 ynd' ymd' ynh' ylv' z0 → sm_FY nc ups br op cl nn fd tg ymd ynd' ymd' ynh' ylv' (6 * m + k) → post ((nI nc), (nI nm), (nI nr), ypl, ynd', ymd', ynh', ylv', ybt, ydp, yst, yot, yen, fc, br, (oF pa), ups, yow, yma, (nF hm), (nF na), (nF ln), (nF op), fs, sc, (nF rk), rc, rn, yil, ynu, ynn, yfa, yvm, yvl, yvh, ypu)) : wpY_follow post ((nI nc), (nI nm), (nI nr), ypl, ynd, ymd, ynh, ylv, ybt, ydp, yst, yot, yen, fc, br, (oF pa), ups, yow, yma, (nF hm), (nF na), (nF ln), (nF op), fs, sc, (nF rk), rc, rn, yil, ynu, ynn, yfa, yvm, yvl, yvh, ypu) (nI i) := by
  subst hi
  exact sy_follow C M N F W hm' hk hL hT hT2 I K
end
end
section
/-! the reference's marking: a pass, the passes, the whole -/
section
variable {nc nm nr : Nat} {pa : Nat → Option Nat} {hm na ln op rk cl nn : Nat → Nat} {fc ups br ic ii fs sc rc rn : Nat → Int32} {dc fd : Nat → Nat → Option Nat}
variable {xnd xmd xnh xlv xq xs xbt xft xdp xst xss xpt xtr xsm : Int32} {xfs xdc xfd xqu xwt xsi xtg xnw xfa xsg xnn xtk xrl bop bcl bin bsk bme bli bou xnf xfm xfl xfh xou xem xel : Nat → Int32}
variable {ypl ynd ymd ynh ylv ybt ydp yst yot yen : Int32} {yow yma yil ynu ynn yfa yvm yvl yvh ypu : Nat → Int32}
variable {tg : Nat → Option Nat}
theorem sy_mark215 {post : SY → Prop} {J64 : Int32 → Int32 → Int32 → Int32 → Int32 → Int32 → Int32 → Int32 → Int32 → Int32 → Int32 → Int32 → Int32 → Int32 → Int32 → Int32 → Int32 → (Nat → Int32) → (Nat → Int32) → (Nat → Int32) → (Nat → Int32) → (Nat → Int32) → (Nat → Int32) → (Nat → Int32) → (Nat → Int32) → (Nat → Int32) → (Nat → Int32) → (Nat → Int32) → (Nat → Int32) → (Nat → Int32) → (Nat → Int32) → (Nat → Int32) → (Nat → Int32) → (Nat → Int32) → (Nat → Int32) → (Nat → Int32) → (Nat → Int32) → (Nat → Int32) → (Nat → Int32) → (Nat → Int32) → Prop} {x1 x2 x3 x4 : Int32} (C : sp_cls nc fc pa ups) (M : sp_mth nc nm fc hm na ln br dc) (N : sp_ins nm ln op cl nn ic ii fs sc) (F : sp_fd nc pa fc ups hm dc fd) (W : sp_ok nc nm fc br ln op cl nn fd) (T : ∀ m k, m < nm → k < ln m → yil (6 * m + k) = oI (tg (6 * m + k)) ∧ ∀ t, tg (6 * m + k) = some t → t < 128) {nd0 md0 nh0 lv0 : Int32}
    (K : ∀ ynd ymd ynh ylv : Int32, sm_YS nc nm nr ups hm na ln br op cl nn fd tg rk rc rn ynd ymd ynh ylv → sm_le nd0 md0 nh0 lv0 z0 ynd ymd ynh ylv z0 → (∀ m k, m < nm → bt lv0 m = true → k < ln m → sm_FY nc ups br op cl nn fd tg md0 ynd ymd ynh ylv (6 * m + k)) → J64 x1 x2 x3 x4 (nI nc) (nI nm) (nI nr) ypl ynd ymd ynh ylv ybt ydp yst yot yen fc br (oF pa) ups yow yma (nF hm) (nF na) (nF ln) (nF op) fs sc (nF rk) rc rn yil ynu ynn yfa yvm yvl yvh ypu) :
    ∀ fuel i (ynd ymd ynh ylv : Int32), i ≤ 6 * nm → 6 * nm - i < fuel → sm_YS nc nm nr ups hm na ln br op cl nn fd tg rk rc rn ynd ymd ynh ylv → sm_le nd0 md0 nh0 lv0 z0 ynd ymd ynh ylv z0 → (∀ m k, m < nm → bt lv0 m = true → k < ln m → 6 * m + k < i → sm_FY nc ups br op cl nn fd tg md0 ynd ymd ynh ylv (6 * m + k)) → wY_mark_215 post J64 x1 x2 x3 x4 fuel (nI i) (nI nc) (nI nm) (nI nr) ypl ynd ymd ynh ylv ybt ydp yst yot yen fc br (oF pa) ups yow yma (nF hm) (nF na) (nF ln) (nF op) fs sc (nF rk) rc rn yil ynu ynn yfa yvm yvl yvh ypu := by
  intro fuel
  induction fuel with
  | zero => intro i _ _ _ _ _ h; omega
  | succ f ih =>
    intro i ynd ymd ynh ylv hi hf I L hd
    have h10 := C.1
    have h30 := M.1
    rw [wY_mark_215]
    dsimp only
    rw [sd_x6]
    refine pk_le (6 * nm) i (fun h => K _ _ _ _ I L (fun m k a b c => hd m k a b c ?_)) (fun h => ?_)
    · have := (M.2.1 m a).2.2.1
      omega
    · have hq : i / 6 < nm := by omega
      have hl := (M.2.1 (i / 6) hq).2.2.1
      have hsplit : 6 * (i / 6) + i % 6 = i := by omega
      have hskip : (bt ylv (i / 6) = true → i % 6 < ln (i / 6) → False) → ∀ y, y = nI i + 1 → wY_mark_215 post J64 x1 x2 x3 x4 f y (nI nc) (nI nm) (nI nr) ypl ynd ymd ynh ylv ybt ydp yst yot yen fc br (oF pa) ups yow yma (nF hm) (nF na) (nF ln) (nF op) fs sc (nF rk) rc rn yil ynu ynn yfa yvm yvl yvh ypu := fun hne =>
        nm_r (nI_1 i) (ih (i + 1) _ _ _ _ (by omega) (by omega) I L (fun m k a b c hlt => by
          rcases Nat.lt_or_ge (6 * m + k) i with y | y
          · exact hd m k a b c y
          · have := (M.2.1 m a).2.2.1
            have e1 : m = i / 6 := by omega
            have e2 : k = i % 6 := by omega
            exact (hne (by rw [← e1]; exact L.2.2.2.1 _ b) (by rw [← e1, ← e2]; exact c)).elim))
      rw [sd_r6 (by omega), sd_d6 (by omega), nI_clamp (n := i / 6) (by omega), nF_a]
      refine ⟨sd_60, yh_b (by omega) (fun hb => hskip (fun z => by rw [hb] at z; cases z)) (fun hb => ⟨sd_60, sd_60, vp_in_nI (by omega) (by decide), pk_le (ln (i / 6)) (i % 6) (fun hk => hskip (fun _ z => by omega)) (fun hk => ?_)⟩)⟩
      obtain ⟨T1, T2⟩ := T (i / 6) (i % 6) hq hk
      exact sy_followI hsplit C M N F W hq hk (I.2.2.2.1 _ hb) T1 T2 I (fun ynd' ymd' ynh' ylv' I' L' hF => nm_r (nI_1 i) (ih (i + 1) _ _ _ _ (by omega) (by omega) I' (sm_le_t L L') (fun m k a b c hlt => by
          rcases Nat.lt_or_ge (6 * m + k) i with y | y
          · exact sm_FYm L' (fun _ z => z) (hd m k a b c y)
          · have := (M.2.1 m a).2.2.1
            have e : 6 * m + k = 6 * (i / 6) + i % 6 := by omega
            rw [e]
            exact sm_FYm sm_le_r L.2.1 hF)))
theorem sy_mark169 {post : SY → Prop} {J64 : Int32 → Int32 → Int32 → Int32 → Int32 → Int32 → Int32 → Int32 → Int32 → Int32 → Int32 → Int32 → Int32 → Int32 → Int32 → Int32 → Int32 → (Nat → Int32) → (Nat → Int32) → (Nat → Int32) → (Nat → Int32) → (Nat → Int32) → (Nat → Int32) → (Nat → Int32) → (Nat → Int32) → (Nat → Int32) → (Nat → Int32) → (Nat → Int32) → (Nat → Int32) → (Nat → Int32) → (Nat → Int32) → (Nat → Int32) → (Nat → Int32) → (Nat → Int32) → (Nat → Int32) → (Nat → Int32) → (Nat → Int32) → (Nat → Int32) → (Nat → Int32) → (Nat → Int32) → Prop} {x1 x2 x3 x4 : Int32} (C : sp_cls nc fc pa ups) (M : sp_mth nc nm fc hm na ln br dc) {nd0 : Int32}
    (K : ∀ ynd : Int32, sm_YS nc nm nr ups hm na ln br op cl nn fd tg rk rc rn ynd ymd ynh ylv → (∀ x, bt nd0 x = true → bt ynd x = true) → (∀ c a, c < nc → bt nd0 c = true → bt (ups c) a = true → bt ynd a = true) → ∃ n215, wY_mark_215 post J64 x1 x2 x3 x4 n215 0 (nI nc) (nI nm) (nI nr) ypl ynd ymd ynh ylv ybt ydp yst yot yen fc br (oF pa) ups yow yma (nF hm) (nF na) (nF ln) (nF op) fs sc (nF rk) rc rn yil ynu ynn yfa yvm yvl yvh ypu) :
    ∀ fuel i (ynd : Int32), i ≤ nc → nc - i < fuel → sm_YS nc nm nr ups hm na ln br op cl nn fd tg rk rc rn ynd ymd ynh ylv → (∀ x, bt nd0 x = true → bt ynd x = true) → (∀ c, c < i → ∀ a, bt nd0 c = true → bt (ups c) a = true → bt ynd a = true) → wY_mark_169 post J64 x1 x2 x3 x4 (nI nc) (nI nm) (nI nr) ypl ymd ynh ylv ybt ydp yst yot yen fc br (oF pa) ups yow yma (nF hm) (nF na) (nF ln) (nF op) fs sc (nF rk) rc rn yil ynu ynn yfa yvm yvl yvh ypu fuel (nI i) ynd := by
  intro fuel
  induction fuel with
  | zero => intro i _ _ h; omega
  | succ f ih =>
    intro i ynd hi hf I L hd
    have h10 := C.1
    rw [wY_mark_169]
    refine pk_le nc i (fun h => K _ I L (fun c a hc => hd c (by omega) a)) (fun h => ?_)
    rw [nI_clamp (n := i) (by omega)]
    refine yh_b (by omega) (fun hb => nm_r (nI_1 i) (ih (i + 1) _ (by omega) (by omega) I L (lt_s hd (fun a z => by rw [L _ z] at hb; cases hb)))) (fun hb => ⟨vp_in_nI (by omega) (by decide), nm_e (nm_r (nI_1 i) (ih (i + 1) _ (by omega) (by omega) ?_ (fun x z => b_orl (L x z)) (lt_s (fun c hc a y z => b_orl (hd c hc a y z)) (fun a _ z => b_orr z))))⟩)
    obtain ⟨a1, a2, a3, a4, a5⟩ := I
    exact ⟨fun c z => (b_ori z).elim (a1 c) (fun y => sm_MLc.2.2.2.2.1 i c h (a1 i hb) y), a2, a3, a4, a5⟩
theorem sy_mark121 {post : SY → Prop} {J64 : Int32 → Int32 → Int32 → Int32 → Int32 → Int32 → Int32 → Int32 → Int32 → Int32 → Int32 → Int32 → Int32 → Int32 → Int32 → Int32 → Int32 → (Nat → Int32) → (Nat → Int32) → (Nat → Int32) → (Nat → Int32) → (Nat → Int32) → (Nat → Int32) → (Nat → Int32) → (Nat → Int32) → (Nat → Int32) → (Nat → Int32) → (Nat → Int32) → (Nat → Int32) → (Nat → Int32) → (Nat → Int32) → (Nat → Int32) → (Nat → Int32) → (Nat → Int32) → (Nat → Int32) → (Nat → Int32) → (Nat → Int32) → (Nat → Int32) → (Nat → Int32) → (Nat → Int32) → Prop} {x1 x2 x3 x4 : Int32} (C : sp_cls nc fc pa ups) (M : sp_mth nc nm fc hm na ln br dc) {nd0 : Int32}
    (K : ∀ ynd : Int32, sm_YS nc nm nr ups hm na ln br op cl nn fd tg rk rc rn ynd ymd ynh ylv → (∀ x, bt nd0 x = true → bt ynd x = true) → (∀ m, m < nm → bt ynh m = true → bt ynd (hm m) = true) → ∃ n169, wY_mark_169 post J64 x1 x2 x3 x4 (nI nc) (nI nm) (nI nr) ypl ymd ynh ylv ybt ydp yst yot yen fc br (oF pa) ups yow yma (nF hm) (nF na) (nF ln) (nF op) fs sc (nF rk) rc rn yil ynu ynn yfa yvm yvl yvh ypu n169 0 ynd) :
    ∀ fuel i (ynd : Int32), i ≤ nm → nm - i < fuel → sm_YS nc nm nr ups hm na ln br op cl nn fd tg rk rc rn ynd ymd ynh ylv → (∀ x, bt nd0 x = true → bt ynd x = true) → (∀ m, m < i → bt ynh m = true → bt ynd (hm m) = true) → wY_mark_121 post J64 x1 x2 x3 x4 (nI nc) (nI nm) (nI nr) ypl ymd ynh ylv ybt ydp yst yot yen fc br (oF pa) ups yow yma (nF hm) (nF na) (nF ln) (nF op) fs sc (nF rk) rc rn yil ynu ynn yfa yvm yvl yvh ypu fuel (nI i) ynd := by
  intro fuel
  induction fuel with
  | zero => intro i _ _ h; omega
  | succ f ih =>
    intro i ynd hi hf I L hd
    have h10 := C.1
    have h30 := M.1
    rw [wY_mark_121]
    refine pk_le nm i (fun h => K _ I L (fun m hm' => hd m (by omega))) (fun h => ?_)
    have hh := (M.2.1 i h).1
    have h32 : hm i < 32 := by omega
    rw [nI_clamp (n := i) (by omega), nF_a]
    refine yh_b (by omega) (fun hb => nm_r (nI_1 i) (ih (i + 1) _ (by omega) (by omega) I L (lt_s hd (fun z => by rw [z] at hb; cases hb)))) (fun hb => ⟨vp_in_nI (by omega) (by decide), nm_e (nm_r (nI_1 i) (ih (i + 1) _ (by omega) (by omega) ?_ (fun x z => b_or1o h32 (L x z)) (lt_s (fun m hm' y => b_or1o h32 (hd m hm' y)) (fun _ => b_or1s h32))))⟩)
    obtain ⟨a1, a2, a3, a4, a5⟩ := I
    exact ⟨fun c z => (b_or1i h32 z).elim (a1 c) (fun y => by rw [y]; exact sm_MLc.2.2.1 i h (a3 i hb)), a2, a3, a4, a5⟩
theorem sy_mark97 {post : SY → Prop} {J64 : Int32 → Int32 → Int32 → Int32 → Int32 → Int32 → Int32 → Int32 → Int32 → Int32 → Int32 → Int32 → Int32 → Int32 → Int32 → Int32 → Int32 → (Nat → Int32) → (Nat → Int32) → (Nat → Int32) → (Nat → Int32) → (Nat → Int32) → (Nat → Int32) → (Nat → Int32) → (Nat → Int32) → (Nat → Int32) → (Nat → Int32) → (Nat → Int32) → (Nat → Int32) → (Nat → Int32) → (Nat → Int32) → (Nat → Int32) → (Nat → Int32) → (Nat → Int32) → (Nat → Int32) → (Nat → Int32) → (Nat → Int32) → (Nat → Int32) → (Nat → Int32) → (Nat → Int32) → Prop} (C : sp_cls nc fc pa ups) (M : sp_mth nc nm fc hm na ln br dc) (N : sp_ins nm ln op cl nn ic ii fs sc) (F : sp_fd nc pa fc ups hm dc fd) (W : sp_ok nc nm fc br ln op cl nn fd) (T : ∀ m k, m < nm → k < ln m → yil (6 * m + k) = oI (tg (6 * m + k)) ∧ ∀ t, tg (6 * m + k) = some t → t < 128) (I : sm_YS nc nm nr ups hm na ln br op cl nn fd tg rk rc rn ynd ymd ynh ylv)
    (K : ∀ ynd' ymd' ynh' ylv' : Int32, sm_YS nc nm nr ups hm na ln br op cl nn fd tg rk rc rn ynd' ymd' ynh' ylv' → sm_le ynd ymd ynh ylv z0 ynd' ymd' ynh' ylv' z0 → sm_ST nc nm ups hm ln br op cl nn fd tg ynd ymd ynh ylv ynd' ymd' ynh' ylv' → J64 ynd ymd ynh ylv (nI nc) (nI nm) (nI nr) ypl ynd' ymd' ynh' ylv' ybt ydp yst yot yen fc br (oF pa) ups yow yma (nF hm) (nF na) (nF ln) (nF op) fs sc (nF rk) rc rn yil ynu ynn yfa yvm yvl yvh ypu) : wY_mark_97 post J64 (nI nc) (nI nm) (nI nr) ypl ynd ymd ynh ylv ybt ydp yst yot yen fc br (oF pa) ups yow yma (nF hm) (nF na) (nF ln) (nF op) fs sc (nF rk) rc rn yil ynu ynn yfa yvm yvl yvh ypu := by
  unfold wY_mark_97
  refine ⟨nm + 1, ?_⟩
  rw [← nI_0]
  refine sy_mark121 C M (fun nd1 I1 L1 h1 => ⟨nc + 1, ?_⟩) (nm + 1) 0 _ (by omega) (by omega) I (fun _ z => z) (fun m hm' => by omega)
  rw [← nI_0]
  refine sy_mark169 C M (fun nd2 I2 L2 h2 => ⟨6 * nm + 1, ?_⟩) (nc + 1) 0 _ (by omega) (by omega) I1 (fun _ z => z) (fun c hc => by omega)
  rw [← nI_0]
  refine sy_mark215 C M N F W T (fun nd3 md3 nh3 lv3 I3 L3 h3 => K _ _ _ _ I3 ⟨fun x z => L3.1 _ (L2 _ (L1 _ z)), L3.2.1, L3.2.2.1, L3.2.2.2.1, fun _ z => z⟩ ⟨fun m hm' hb => L3.1 _ (L2 _ (h1 m hm' hb)), fun c a hc hb hu => L3.1 _ (h2 c a hc (L1 _ hb) hu), h3⟩) (6 * nm + 1) 0 _ _ _ _ (by omega) (by omega) I2 sm_le_r (fun m k _ _ _ h => by omega)
theorem sy_mark64 {post : SY → Prop} (C : sp_cls nc fc pa ups) (M : sp_mth nc nm fc hm na ln br dc) (N : sp_ins nm ln op cl nn ic ii fs sc) (F : sp_fd nc pa fc ups hm dc fd) (W : sp_ok nc nm fc br ln op cl nn fd) (T : ∀ m k, m < nm → k < ln m → yil (6 * m + k) = oI (tg (6 * m + k)) ∧ ∀ t, tg (6 * m + k) = some t → t < 128)
    (K : ∀ ynd ymd ynh ylv : Int32, sm_XR nc nm nr ups hm na ln br op cl nn fd tg rk rc rn ynd ymd ynh ylv → post ((nI nc), (nI nm), (nI nr), ypl, ynd, ymd, ynh, ylv, ybt, ydp, yst, yot, yen, fc, br, (oF pa), ups, yow, yma, (nF hm), (nF na), (nF ln), (nF op), fs, sc, (nF rk), rc, rn, yil, ynu, ynn, yfa, yvm, yvl, yvh, ypu)) :
    ∀ fuel (x1 x2 x3 x4 ynd ymd ynh ylv : Int32), 80 - sm_mu ynd ymd ynh ylv + 1 < fuel → ¬ (x1 = ynd ∧ x2 = ymd ∧ x3 = ynh ∧ x4 = ylv) → sm_YS nc nm nr ups hm na ln br op cl nn fd tg rk rc rn ynd ymd ynh ylv → sm_RU nc nm nr hm na br rk rc rn ynd ynh ylv → wY_mark_64 post fuel x1 x2 x3 x4 (nI nc) (nI nm) (nI nr) ypl ynd ymd ynh ylv ybt ydp yst yot yen fc br (oF pa) ups yow yma (nF hm) (nF na) (nF ln) (nF op) fs sc (nF rk) rc rn yil ynu ynn yfa yvm yvl yvh ypu := by
  intro fuel
  induction fuel with
  | zero => intro _ _ _ _ _ _ _ _ h; omega
  | succ f ih =>
    intro x1 x2 x3 x4 ynd ymd ynh ylv hf hne I R
    have h97 : wY_mark_97 post (wY_mark_64 post f) (nI nc) (nI nm) (nI nr) ypl ynd ymd ynh ylv ybt ydp yst yot yen fc br (oF pa) ups yow yma (nF hm) (nF na) (nF ln) (nF op) fs sc (nF rk) rc rn yil ynu ynn yfa yvm yvl yvh ypu := by
      refine sy_mark97 C M N F W T I (fun nd' md' nh' lv' I' L' S => ?_)
      by_cases e : ynd = nd' ∧ ymd = md' ∧ ynh = nh' ∧ ylv = lv'
      · obtain ⟨e1, e2, e3, e4⟩ := e
        subst e1; subst e2; subst e3; subst e4
        obtain ⟨f', rfl⟩ : ∃ f', f = f' + 1 := ⟨f - 1, by omega⟩
        rw [wY_mark_64]
        exact br_t rfl (br_t rfl (br_t rfl (br_t rfl (K _ _ _ _ (sm_yXR C M F W I S R)))))
      · have h1 := sm_mul C M F W I' L' e
        have h2 := sm_mu80 nd' md' nh' lv'
        exact ih _ _ _ _ _ _ _ _ (by omega) e I' (sm_RUm L' R)
    rw [wY_mark_64]
    exact br_c (fun e1 => br_c (fun e2 => br_c (fun e3 => br_c (fun e4 => absurd ⟨e1, e2, e3, e4⟩ hne) (fun _ => h97)) (fun _ => h97)) (fun _ => h97)) (fun _ => h97)
theorem sy_isRuled2 {m ks : Nat} {A B : Prop} (M : sp_mth nc nm fc hm na ln br dc) (h10 : nc ≤ 10) (U : sp_rul nr rk) (hm' : m < nm) (hks : ks < 128) (f : ¬ (∃ r, r < nr ∧ rk r < ks ∧ bt (rc r) (hm m) = true ∧ bt (rn r) (na m) = true) → A) (g : (∃ r, r < nr ∧ rk r < ks ∧ bt (rc r) (hm m) = true ∧ bt (rn r) (na m) = true) → B) :
    ∀ fuel i, i ≤ nr → nr - i < fuel → (∀ r, r < i → ¬ (rk r < ks ∧ bt (rc r) (hm m) = true ∧ bt (rn r) (na m) = true)) → wY_isRuled_2 (fun r => (r = 0 → A) ∧ (¬ r = 0 → B)) (nI m) (nI ks) (nI nc) (nI nm) (nI nr) ypl ynd ymd ynh ylv ybt ydp yst yot yen fc br (oF pa) ups yow yma (nF hm) (nF na) (nF ln) (nF op) fs sc (nF rk) rc rn yil ynu ynn yfa yvm yvl yvh ypu fuel (nI i) := by
  intro fuel
  induction fuel with
  | zero => intro i _ h; omega
  | succ fu ih =>
    intro i hi hf hd
    have h30 := M.1
    have h4 := U.1
    obtain ⟨m1, m2, _⟩ := M.2.1 m hm'
    rw [wY_isRuled_2]
    refine pk_le nr i (fun h => br_t rfl (f ?_)) (fun h => ?_)
    · rintro ⟨r, r1, r2⟩
      exact hd r (by omega) r2
    · have hr2 := U.2 i h
      have hv : vp_in (nI i) 4 := vp_in_nI (by omega) (by decide)
      have hv' : vp_in (nI m) 30 := vp_in_nI (by omega) (by decide)
      have hnext : ¬ (rk i < ks ∧ bt (rc i) (hm m) = true ∧ bt (rn i) (na m) = true) → ∀ y, y = nI i + 1 → wY_isRuled_2 (fun r => (r = 0 → A) ∧ (¬ r = 0 → B)) (nI m) (nI ks) (nI nc) (nI nm) (nI nr) ypl ynd ymd ynh ylv ybt ydp yst yot yen fc br (oF pa) ups yow yma (nF hm) (nF na) (nF ln) (nF op) fs sc (nF rk) rc rn yil ynu ynn yfa yvm yvl yvh ypu fu y := fun hne =>
        nm_r (nI_1 i) (ih (i + 1) (by omega) (by omega) (lt_s hd hne))
      rw [nI_clamp (n := i) (by omega), nI_clamp (n := m) (by omega), nF_a, nF_a, nF_a]
      refine ⟨hv, pk_le ks (rk i) (fun hk => hnext (fun z => by omega)) (fun hk => ⟨hv, hv', yh_b (by omega) (fun hb => hnext (fun z => by rw [hb] at z; cases z.2.1)) (fun hb => ⟨hv, hv', yh_b (by omega) (fun hb2 => hnext (fun z => by rw [hb2] at z; cases z.2.2)) (fun hb2 => br_f (by decide) (g ⟨i, h, hk, hb, hb2⟩))⟩)⟩)⟩
theorem sy_isRuled {m ks : Nat} {A B : Prop} (M : sp_mth nc nm fc hm na ln br dc) (h10 : nc ≤ 10) (U : sp_rul nr rk) (hm' : m < nm) (hks : ks < 128) (f : ¬ (∃ r, r < nr ∧ rk r < ks ∧ bt (rc r) (hm m) = true ∧ bt (rn r) (na m) = true) → A) (g : (∃ r, r < nr ∧ rk r < ks ∧ bt (rc r) (hm m) = true ∧ bt (rn r) (na m) = true) → B) :
    wpY_isRuled (fun r => (r = 0 → A) ∧ (¬ r = 0 → B)) ((nI nc), (nI nm), (nI nr), ypl, ynd, ymd, ynh, ylv, ybt, ydp, yst, yot, yen, fc, br, (oF pa), ups, yow, yma, (nF hm), (nF na), (nF ln), (nF op), fs, sc, (nF rk), rc, rn, yil, ynu, ynn, yfa, yvm, yvl, yvh, ypu) (nI m) (nI ks) :=
  ⟨nr + 1, sy_isRuled2 M h10 U hm' hks f g (nr + 1) 0 (by omega) (by omega) (fun r hr => by omega)⟩
theorem sy_ruledC4 {post : Int32 → Prop} {ks : Nat} (h10 : nc ≤ 10) (U : sp_rul nr rk) (hks : ks < 128) (K : ∀ x : Int32, (∀ c, bt x c = true ↔ c < nc ∧ ∃ r, r < nr ∧ rk r < ks ∧ bt (rc r) c = true) → post x) :
    ∀ fuel i (x : Int32), i ≤ nr → nr - i < fuel → (∀ c, bt x c = true ↔ ∃ r, r < i ∧ rk r < ks ∧ bt (rc r) c = true) → wY_ruledClasses_4 post (nI ks) (nI nc) (nI nm) (nI nr) ypl ynd ymd ynh ylv ybt ydp yst yot yen fc br (oF pa) ups yow yma (nF hm) (nF na) (nF ln) (nF op) fs sc (nF rk) rc rn yil ynu ynn yfa yvm yvl yvh ypu fuel x (nI i) := by
  intro fuel
  induction fuel with
  | zero => intro i _ _ h; omega
  | succ fu ih =>
    intro i x hi hf hd
    have h4 := U.1
    rw [wY_ruledClasses_4]
    refine pk_le nr i (fun h => K _ (fun c => ?_)) (fun h => ?_)
    · have e : i = nr := by omega
      rw [e] at hd
      rw [b_and, Bool.and_eq_true, hd c]
      constructor
      · rintro ⟨a, b⟩
        have hc := b_lt b
        rw [b_mask nc (by omega) c hc] at b
        exact ⟨by simpa using b, a⟩
      · rintro ⟨a, b⟩
        refine ⟨b, ?_⟩
        rw [b_mask nc (by omega) c (by omega)]
        simpa using a
    · have hr2 := U.2 i h
      have hv : vp_in (nI i) 4 := vp_in_nI (by omega) (by decide)
      rw [nI_clamp (n := i) (by omega), nF_a]
      refine ⟨hv, pk_le ks (rk i) (fun hk => nm_r (nI_1 i) (ih (i + 1) _ (by omega) (by omega) (fun c => ?_))) (fun hk => ⟨hv, nm_e (nm_r (nI_1 i) (ih (i + 1) _ (by omega) (by omega) (fun c => ?_)))⟩)⟩
      · rw [hd c]
        constructor
        · rintro ⟨r, a, b⟩
          exact ⟨r, by omega, b⟩
        · rintro ⟨r, a, b, e⟩
          have : r ≠ i := fun z => by rw [z] at b; omega
          exact ⟨r, by omega, b, e⟩
      · rw [b_or, Bool.or_eq_true, hd c]
        constructor
        · rintro (⟨r, a, b⟩ | z)
          · exact ⟨r, by omega, b⟩
          · exact ⟨i, by omega, hk, z⟩
        · rintro ⟨r, a, b, e⟩
          by_cases z : r = i
          · rw [z] at e; exact Or.inr e
          · exact Or.inl ⟨r, by omega, b, e⟩
theorem sy_ruledClasses {post : Int32 → Prop} {ks : Nat} (h10 : nc ≤ 10) (U : sp_rul nr rk) (hks : ks < 128) (K : ∀ x : Int32, (∀ c, bt x c = true ↔ c < nc ∧ ∃ r, r < nr ∧ rk r < ks ∧ bt (rc r) c = true) → post x) : wpY_ruledClasses post ((nI nc), (nI nm), (nI nr), ypl, ynd, ymd, ynh, ylv, ybt, ydp, yst, yot, yen, fc, br, (oF pa), ups, yow, yma, (nF hm), (nF na), (nF ln), (nF op), fs, sc, (nF rk), rc, rn, yil, ynu, ynn, yfa, yvm, yvl, yvh, ypu) (nI ks) :=
  ⟨nr + 1, sy_ruledC4 h10 U hks K (nr + 1) 0 0 (by omega) (by omega) (fun c => ⟨fun z => (by rw [b_0] at z; cases z), fun ⟨r, hr, _⟩ => by omega⟩)⟩
theorem sy_mark26 {post : SY → Prop} (C : sp_cls nc fc pa ups) (M : sp_mth nc nm fc hm na ln br dc) (N : sp_ins nm ln op cl nn ic ii fs sc) (U : sp_rul nr rk) (F : sp_fd nc pa fc ups hm dc fd) (W : sp_ok nc nm fc br ln op cl nn fd) (T : ∀ m k, m < nm → k < ln m → yil (6 * m + k) = oI (tg (6 * m + k)) ∧ ∀ t, tg (6 * m + k) = some t → t < 128)
    (K : ∀ ynd ymd ynh ylv : Int32, sm_XR nc nm nr ups hm na ln br op cl nn fd tg rk rc rn ynd ymd ynh ylv → post ((nI nc), (nI nm), (nI nr), ypl, ynd, ymd, ynh, ylv, ybt, ydp, yst, yot, yen, fc, br, (oF pa), ups, yow, yma, (nF hm), (nF na), (nF ln), (nF op), fs, sc, (nF rk), rc, rn, yil, ynu, ynn, yfa, yvm, yvl, yvh, ypu)) (hnd : ∀ r c, r < nr → rk r = 0 → c < nc → bt (rc r) c = true → bt ynd c = true) :
    ∀ fuel i (ynh ylv : Int32), i ≤ nm → nm - i < fuel → sm_YS nc nm nr ups hm na ln br op cl nn fd tg rk rc rn ynd ymd ynh ylv → (∀ m, m < i → ∀ r, r < nr → rk r = 0 → bt (rc r) (hm m) = true → bt (rn r) (na m) = true → bt ynh m = true ∧ (br m = 0 → bt ylv m = true)) → wY_mark_26 post fuel (nI i) (nI nc) (nI nm) (nI nr) ypl ynd ymd ynh ylv ybt ydp yst yot yen fc br (oF pa) ups yow yma (nF hm) (nF na) (nF ln) (nF op) fs sc (nF rk) rc rn yil ynu ynn yfa yvm yvl yvh ypu := by
  intro fuel
  induction fuel with
  | zero => intro i _ _ _ h; omega
  | succ f ih =>
    intro i ynh ylv hi hf I hd
    have h10 := C.1
    have h30 := M.1
    rw [wY_mark_26]
    refine pk_le nm i (fun h => ⟨82, ?_⟩) (fun h => ?_)
    · refine sy_mark64 C M N F W T K 82 _ _ _ _ _ _ _ _ (by omega) (fun z => ?_) I ⟨hnd, fun r m a b c d e => hd m (by omega) r a b d e⟩
      have h1 : bt ynd 31 = true := by rw [← z.1]; decide
      have := (sm_rng C M F W (I.1 31 h1)).1 (Or.inl rfl)
      omega
    · refine sy_isRuled (ks := 1) M h10 U h (by decide) (fun hn => nm_r (nI_1 i) (ih (i + 1) _ _ (by omega) (by omega) I (lt_s hd (fun r a b c d => absurd ⟨r, a, by omega, c, d⟩ hn)))) (fun ⟨r, r1, r2, r3, r4⟩ => ?_)
      have hr0 : rk r = 0 := by omega
      obtain ⟨m2, m3⟩ := (show sm_cl nc nm nr ups hm na ln br op cl nn fd tg rk rc rn (sm_ML nc nm nr ups hm na ln br op cl nn fd tg rk rc rn) from sm_MLc).2.1 r i r1 hr0 h r3 r4
      refine sy_reach1 M h m2 m3 I (fun ynh' ylv' I' L' e1 e2 => nm_r (nI_1 i) (ih (i + 1) _ _ (by omega) (by omega) I' (lt_s (fun m hm' r a b c d => ?_) (fun _ _ _ _ _ => ⟨e1, e2⟩))))
      have := hd m hm' r a b c d
      exact ⟨L'.2.2.1 _ this.1, fun y => L'.2.2.2.1 _ (this.2 y)⟩
theorem sy_mark {post : SY → Prop} (C : sp_cls nc fc pa ups) (M : sp_mth nc nm fc hm na ln br dc) (N : sp_ins nm ln op cl nn ic ii fs sc) (U : sp_rul nr rk) (F : sp_fd nc pa fc ups hm dc fd) (W : sp_ok nc nm fc br ln op cl nn fd) (T : ∀ m k, m < nm → k < ln m → yil (6 * m + k) = oI (tg (6 * m + k)) ∧ ∀ t, tg (6 * m + k) = some t → t < 128)
    (K : ∀ ynd ymd ynh ylv : Int32, sm_XR nc nm nr ups hm na ln br op cl nn fd tg rk rc rn ynd ymd ynh ylv → post ((nI nc), (nI nm), (nI nr), ypl, ynd, ymd, ynh, ylv, ybt, ydp, yst, yot, yen, fc, br, (oF pa), ups, yow, yma, (nF hm), (nF na), (nF ln), (nF op), fs, sc, (nF rk), rc, rn, yil, ynu, ynn, yfa, yvm, yvl, yvh, ypu)) : wpY_mark post ((nI nc), (nI nm), (nI nr), ypl, ynd, ymd, ynh, ylv, ybt, ydp, yst, yot, yen, fc, br, (oF pa), ups, yow, yma, (nF hm), (nF na), (nF ln), (nF op), fs, sc, (nF rk), rc, rn, yil, ynu, ynn, yfa, yvm, yvl, yvh, ypu) := by
  have h10 := C.1
  unfold wpY_mark
  dsimp only
  refine sy_ruledClasses (ks := 1) h10 U (by decide) (fun x hx => ⟨nm + 1, ?_⟩)
  have b0 : ∀ x, ¬ bt 0 x = true := fun x => by rw [b_0]; decide
  rw [← nI_0]
  refine sy_mark26 C M N U F W T K (fun r c a b d e => (hx c).mpr ⟨d, r, a, by omega, e⟩) (nm + 1) 0 _ _ (by omega) (by omega) ⟨fun c z => ?_, fun c z => absurd z (b0 _), fun c z => absurd z (b0 _), fun c z => absurd z (b0 _), fun c z => absurd z (b0 _)⟩ (fun m hm' => by omega)
  obtain ⟨c1, r, r1, r2, r3⟩ := (hx c).mp z
  exact sm_MLc.1 r c r1 (by omega) c1 r3
end
end
section
/-! inlining: the methods that are done in place of instructions -/
abbrev sp_sh (ln op : Nat → Nat) (t : Nat) : Prop := ln t ≤ 3 ∧ ∀ k, k < ln t → (op (6 * t + k) = 0 ∨ op (6 * t + k) = 5)
def sp_onl (B : Nat → Bool) (f : Nat → Option Nat) (br : Nat → Int32) : Nat → Nat → Option Nat → Option Nat
  | 0, _, t => t
  | k + 1, d, t => if B d = true then (match f d with
      | none => none
      | some g => if br g = 0 then (match t with
          | none => sp_onl B f br k (d + 1) (some g)
          | some t' => if t' = g then sp_onl B f br k (d + 1) (some g) else none) else none)
      else sp_onl B f br k (d + 1) t
theorem sp_onl_s {B : Nat → Bool} {f : Nat → Option Nat} {br : Nat → Int32} {g : Nat} : ∀ k d t, sp_onl B f br k d t = some g → t = some g ∨ ∃ e, d ≤ e ∧ e < d + k ∧ B e = true ∧ f e = some g
  | 0, _, _, h => Or.inl h
  | k + 1, d, t, h => by
    rw [sp_onl] at h
    by_cases hb : B d = true
    · rw [if_pos hb] at h
      cases ef : f d with
      | none => rw [ef] at h; cases h
      | some x =>
        rw [ef] at h
        dsimp only at h
        have step : sp_onl B f br k (d + 1) (some x) = some g → t = some g ∨ ∃ e, d ≤ e ∧ e < d + (k + 1) ∧ B e = true ∧ f e = some g := fun h' => by
          rcases sp_onl_s k (d + 1) (some x) h' with z | ⟨e, e1, e2, e3⟩
          · cases z; exact Or.inr ⟨d, by omega, by omega, hb, ef⟩
          · exact Or.inr ⟨e, by omega, by omega, e3⟩
        split at h
        · cases t with
          | none => exact step h
          | some t' =>
            dsimp only at h
            split at h
            · exact step h
            · cases h
        · cases h
    · rw [if_neg hb] at h
      rcases sp_onl_s k (d + 1) t h with z | ⟨e, e1, e2, e3⟩
      · exact Or.inl z
      · exact Or.inr ⟨e, by omega, by omega, e3⟩
def sp_tc (nc : Nat) (ups br : Nat → Int32) (op cl nn : Nat → Nat) (fd : Nat → Nat → Option Nat) (md : Int32) (i : Nat) : Option Nat :=
  if op i = 3 then fd (cl i) (nn i) else if op i = 2 then sp_onl (fun d => bt md d && bt (ups d) (cl i)) (fun d => fd d (nn i)) br nc 0 none else none
def sp_cut (ln op : Nat → Nat) (m : Nat) (o : Option Nat) : Option Nat := match o with
  | none => none
  | some t => if t ≠ m ∧ sp_sh ln op t then some t else none
def sp_tg (nc : Nat) (ups br : Nat → Int32) (ln op cl nn : Nat → Nat) (fd : Nat → Nat → Option Nat) (lv md : Int32) (i : Nat) : Option Nat :=
  if i % 6 < ln (i / 6) ∧ bt lv (i / 6) = true then sp_cut ln op (i / 6) (sp_tc nc ups br op cl nn fd md i) else none
theorem sp_cuts {ln op : Nat → Nat} {m t : Nat} {o : Option Nat} (h : sp_cut ln op m o = some t) : o = some t ∧ t ≠ m ∧ sp_sh ln op t := by
  unfold sp_cut at h
  cases o with
  | none => cases h
  | some x =>
    dsimp only at h
    split at h
    · cases h; exact ⟨rfl, by assumption⟩
    · cases h
section
variable {nc nm nr : Nat} {pa : Nat → Option Nat} {hm na ln op rk cl nn : Nat → Nat} {fc ups br ic ii fs sc rc rn : Nat → Int32} {dc fd : Nat → Nat → Option Nat}
variable {xnd xmd xnh xlv xq xs xbt xft xdp xst xss xpt xtr xsm : Int32} {xfs xdc xfd xqu xwt xsi xtg xnw xfa xsg xnn xtk xrl bop bcl bin bsk bme bli bou xnf xfm xfl xfh xou xem xel : Nat → Int32}
variable {ypl ynd ymd ynh ylv ybt ydp yst yot yen : Int32} {yow yma yil ynu ynn yfa yvm yvl yvh ypu : Nat → Int32}
theorem sp_tcs {md : Int32} {i t : Nat} (C : sp_cls nc fc pa ups) (M : sp_mth nc nm fc hm na ln br dc) (F : sp_fd nc pa fc ups hm dc fd) (hc : op i = 3 → cl i < nc) (h : sp_tc nc ups br op cl nn fd md i = some t) : t < nm ∧ (op i = 2 ∨ op i = 3) := by
  unfold sp_tc at h
  by_cases o3 : op i = 3
  · rw [if_pos o3] at h
    exact ⟨(sp_sound C M F _ _ t (hc o3) h).1, Or.inr o3⟩
  · rw [if_neg o3] at h
    by_cases o2 : op i = 2
    · rw [if_pos o2] at h
      rcases sp_onl_s _ _ _ h with z | ⟨e, e1, e2, e3, e4⟩
      · cases z
      · exact ⟨(sp_sound C M F _ _ t (by omega) e4).1, Or.inl o2⟩
    · rw [if_neg o2] at h; cases h
theorem sx_isShort21 {t : Nat} {A B : Prop} (M : sp_mth nc nm fc hm na ln br dc) (h6 : ∀ k, k < ln t → op (6 * t + k) < 6) (ht : t < nm) (f : ¬ sp_sh ln op t → A) (g : sp_sh ln op t → B) :
    ∀ fuel k (x : Int32), k ≤ ln t → ln t - k < fuel → (x = 1 ∧ ln t ≤ 3 ∧ (∀ j, j < k → op (6 * t + j) = 0 ∨ op (6 * t + j) = 5) ∨ x = 0 ∧ ¬ sp_sh ln op t) → wX_isShort_21 (fun r => (r = 0 → A) ∧ (¬ r = 0 → B)) (nI t) (nI nc) (nI nm) (nI nr) xnd xmd xnh xlv xq xs xbt xft xdp xst xss xpt xtr xsm fc (oF pa) xfs ups (nF hm) (nF na) br (nF ln) (nF op) ic ii xdc xfd (nF rk) rc rn xqu xwt xsi xtg xnw xfa xsg xnn xtk xrl bop bcl bin bsk bme bli bou xnf xfm xfl xfh xou xem xel fuel x (nI (6 * t + k)) := by
  intro fuel
  induction fuel with
  | zero => intro k _ _ h; omega
  | succ fu ih =>
    intro k x hk hf hx
    have h30 := M.1
    have hl := (M.2.1 t ht).2.2.1
    rw [wX_isShort_21]
    dsimp only
    rw [sd_x6, nI_clamp (n := t) (by omega), nI_clamp (n := 6 * t + k) (by omega), nF_a, nF_a, nI_add]
    refine ⟨vp_in_nI (by omega) (by decide), pk_le (6 * t + ln t) (6 * t + k) (fun h => ?_) (fun h => ?_)⟩
    · rcases hx with ⟨e, h3, h4⟩ | ⟨e, h3⟩
      · rw [e]; exact ⟨narrow_b1, br_f (by decide) (g ⟨h3, fun j hj => h4 j (by omega)⟩)⟩
      · rw [e]; exact ⟨narrow_b0, br_t rfl (f h3)⟩
    · have hv : vp_in (nI (6 * t + k)) 180 := vp_in_nI (by omega) (by decide)
      have ho := h6 k (by omega)
      rcases hx with ⟨e, h3, h4⟩ | ⟨e, h3⟩
      · rw [e]
        have h1 : (op (6 * t + k) = 0 ∨ op (6 * t + k) = 5) → ∀ y, y = nI (6 * t + k) + 1 → wX_isShort_21 (fun r => (r = 0 → A) ∧ (¬ r = 0 → B)) (nI t) (nI nc) (nI nm) (nI nr) xnd xmd xnh xlv xq xs xbt xft xdp xst xss xpt xtr xsm fc (oF pa) xfs ups (nF hm) (nF na) br (nF ln) (nF op) ic ii xdc xfd (nF rk) rc rn xqu xwt xsi xtg xnw xfa xsg xnn xtk xrl bop bcl bin bsk bme bli bou xnf xfm xfl xfh xou xem xel fu 1 y := fun z =>
          nm_r (nI_1 (6 * t + k)) (ih (k + 1) 1 (by omega) (by omega) (Or.inl ⟨rfl, h3, lt_s h4 z⟩))
        refine br_f (by decide) ⟨hv, pk_eq (op (6 * t + k)) 0 (fun o0 => h1 (Or.inl o0)) (fun o0 => ⟨hv, pk_eq (op (6 * t + k)) 5 (fun o5 => h1 (Or.inr o5)) (fun o5 => nm_r (nI_1 (6 * t + k)) (ih (k + 1) 0 (by omega) (by omega) (Or.inr ⟨rfl, fun z => ?_⟩)))⟩)⟩
        exact (z.2 k (by omega)).elim o0 o5
      · rw [e]
        exact br_t rfl (nm_r (nI_1 (6 * t + k)) (ih (k + 1) 0 (by omega) (by omega) (Or.inr ⟨rfl, h3⟩)))
theorem sx_isShort {t : Nat} {A B : Prop} (M : sp_mth nc nm fc hm na ln br dc) (h6 : ∀ k, k < ln t → op (6 * t + k) < 6) (ht : t < nm) (f : ¬ sp_sh ln op t → A) (g : sp_sh ln op t → B) :
    wpX_isShort (fun r => (r = 0 → A) ∧ (¬ r = 0 → B)) ((nI nc), (nI nm), (nI nr), xnd, xmd, xnh, xlv, xq, xs, xbt, xft, xdp, xst, xss, xpt, xtr, xsm, fc, (oF pa), xfs, ups, (nF hm), (nF na), br, (nF ln), (nF op), ic, ii, xdc, xfd, (nF rk), rc, rn, xqu, xwt, xsi, xtg, xnw, xfa, xsg, xnn, xtk, xrl, bop, bcl, bin, bsk, bme, bli, bou, xnf, xfm, xfl, xfh, xou, xem, xel) (nI t) := by
  have h30 := M.1
  have hl := (M.2.1 t ht).2.2.1
  unfold wpX_isShort
  dsimp only
  rw [nI_clamp (n := t) (by omega), nF_a, sd_x6]
  refine And.intro (vp_in_nI (by omega) (by decide)) (pk_lt 3 (ln t) (fun h => nm_e ⟨ln t + 1, ?_⟩) (fun h => nm_e ⟨ln t + 1, ?_⟩))
  · exact sx_isShort21 M h6 ht f g (ln t + 1) 0 0 (by omega) (by omega) (Or.inr ⟨rfl, fun z => by have := z.1; omega⟩)
  · exact sx_isShort21 M h6 ht f g (ln t + 1) 0 1 (by omega) (by omega) (Or.inl ⟨rfl, h, fun j hj => by omega⟩)
theorem sy_isShort5 {t : Nat} {A B : Prop} (M : sp_mth nc nm fc hm na ln br dc) (h6 : ∀ k, k < ln t → op (6 * t + k) < 6) (ht : t < nm) (f : ¬ sp_sh ln op t → A) (g : sp_sh ln op t → B) :
    ∀ fuel k, k ≤ ln t → ln t - k < fuel → (∀ j, j < k → op (6 * t + j) = 0 ∨ op (6 * t + j) = 5) → wY_isShort_5 (fun r => (r = 0 → A) ∧ (¬ r = 0 → B)) (nI t) (nI nc) (nI nm) (nI nr) ypl ynd ymd ynh ylv ybt ydp yst yot yen fc br (oF pa) ups yow yma (nF hm) (nF na) (nF ln) (nF op) fs sc (nF rk) rc rn yil ynu ynn yfa yvm yvl yvh ypu fuel (nI (6 * t + k)) := by
  intro fuel
  induction fuel with
  | zero => intro k _ h; omega
  | succ fu ih =>
    intro k hk hf hx
    have h30 := M.1
    have hl := (M.2.1 t ht).2.2.1
    rw [wY_isShort_5]
    dsimp only
    rw [sd_x6, nI_clamp (n := t) (by omega), nI_clamp (n := 6 * t + k) (by omega), nF_a, nF_a, nI_add]
    have hvt : vp_in (nI t) 30 := vp_in_nI (by omega) (by decide)
    refine ⟨hvt, pk_le (6 * t + ln t) (6 * t + k) (fun h => ⟨hvt, pk_le 4 (ln t) (fun h4 => br_t rfl (f (fun z => by have := z.1; omega))) (fun h4 => br_f (by decide) (g ⟨by omega, fun j hj => hx j (by omega)⟩))⟩) (fun h => ?_)⟩
    have hv : vp_in (nI (6 * t + k)) 180 := vp_in_nI (by omega) (by decide)
    have ho := h6 k (by omega)
    have h1 : (op (6 * t + k) = 0 ∨ op (6 * t + k) = 5) → ∀ y, y = nI (6 * t + k) + 1 → wY_isShort_5 (fun r => (r = 0 → A) ∧ (¬ r = 0 → B)) (nI t) (nI nc) (nI nm) (nI nr) ypl ynd ymd ynh ylv ybt ydp yst yot yen fc br (oF pa) ups yow yma (nF hm) (nF na) (nF ln) (nF op) fs sc (nF rk) rc rn yil ynu ynn yfa yvm yvl yvh ypu fu y := fun z =>
      nm_r (nI_1 (6 * t + k)) (ih (k + 1) (by omega) (by omega) (lt_s hx z))
    exact ⟨hv, pk_eq (op (6 * t + k)) 0 (fun o0 => h1 (Or.inl o0)) (fun o0 => ⟨hv, pk_eq (op (6 * t + k)) 5 (fun o5 => h1 (Or.inr o5)) (fun o5 => br_t rfl (f (fun z => (z.2 k (by omega)).elim o0 o5)))⟩)⟩
theorem sy_isShort {t : Nat} {A B : Prop} (M : sp_mth nc nm fc hm na ln br dc) (h6 : ∀ k, k < ln t → op (6 * t + k) < 6) (ht : t < nm) (f : ¬ sp_sh ln op t → A) (g : sp_sh ln op t → B) :
    wpY_isShort (fun r => (r = 0 → A) ∧ (¬ r = 0 → B)) ((nI nc), (nI nm), (nI nr), ypl, ynd, ymd, ynh, ylv, ybt, ydp, yst, yot, yen, fc, br, (oF pa), ups, yow, yma, (nF hm), (nF na), (nF ln), (nF op), fs, sc, (nF rk), rc, rn, yil, ynu, ynn, yfa, yvm, yvl, yvh, ypu) (nI t) := by
  unfold wpY_isShort
  dsimp only
  rw [sd_x6]
  exact nm_e ⟨ln t + 1, sy_isShort5 M h6 ht f g (ln t + 1) 0 (by omega) (by omega) (fun j hj => by omega)⟩
theorem sx_only5 {post : Int32 → Prop} {c n : Nat} (C : sp_cls nc fc pa ups) (M : sp_mth nc nm fc hm na ln br dc) (F : sp_fd nc pa fc ups hm dc fd) (A : ∀ a b, a < nc → b < 10 → xfd (10 * a + b) = oI (fd a b)) (hc : c < nc) (hn : n < 10) :
    ∀ k d t, d + k = nc → (∀ x, t = some x → x < nm) → post (oI (sp_onl (fun d => bt xmd d && bt (ups d) c) (fun d => fd d n) br k d t)) → wX_only_5 post (nI c) (nI n) (nI nc) (nI nm) (nI nr) xnd xmd xnh xlv xq xs xbt xft xdp xst xss xpt xtr xsm fc (oF pa) xfs ups (nF hm) (nF na) br (nF ln) (nF op) ic ii xdc xfd (nF rk) rc rn xqu xwt xsi xtg xnw xfa xsg xnn xtk xrl bop bcl bin bsk bme bli bou xnf xfm xfl xfh xou xem xel (k + 1) (oI t) (nI d) := by
  intro k
  induction k with
  | zero =>
    intro d t hd ht hp
    rw [wX_only_5]
    have h10 := C.1
    exact pk_le nc d (fun _ => hp) (fun h => by omega)
  | succ k ih =>
    intro d t hd ht hp
    have h10 := C.1
    have h30 := M.1
    rw [sp_onl] at hp
    rw [wX_only_5]
    refine pk_le nc d (fun h => by omega) (fun h => ?_)
    rw [nI_clamp (n := d) (by omega)]
    refine xh_b (by omega) (fun hb => ?_) (fun hb => ⟨vp_in_nI (by omega) (by decide), xh_b (by omega) (fun hb2 => ?_) (fun hb2 => ?_)⟩)
    · rw [if_neg (by simp [hb])] at hp
      exact nm_r (nI_1 d) (ih (d + 1) t (by omega) ht hp)
    · rw [if_neg (by simp [hb2])] at hp
      exact nm_r (nI_1 d) (ih (d + 1) t (by omega) ht hp)
    · rw [if_pos (by simp [hb, hb2])] at hp
      refine sx_found h10 A h hn ?_
      cases ef : fd d n with
      | none =>
        rw [ef] at hp
        exact br_t (by decide) hp
      | some g =>
        rw [ef] at hp
        dsimp only at hp
        have hg := (sp_sound C M F d n g h ef).1
        rw [oI_s, nI_clamp (n := g) (by omega)]
        refine br_f (nI_pos (by omega)) ⟨vp_in_nI (by omega) (by decide), br_c (fun hz => ?_) (fun hz => ?_)⟩
        · rw [if_pos hz] at hp
          have hgn : ∀ x, some g = some x → x < nm := fun x e => by cases e; exact hg
          cases t with
          | none => exact br_t (by decide) (nm_r (nI_1 d) (ih (d + 1) (some g) (by omega) hgn hp))
          | some t' =>
            dsimp only at hp
            have ht' := ht t' rfl
            rw [oI_s]
            refine br_f (nI_pos (by omega)) (pk_eq t' g (fun e => ?_) (fun e => ?_))
            · rw [if_pos e] at hp
              exact nm_r (nI_1 d) (ih (d + 1) (some g) (by omega) hgn hp)
            · rw [if_neg e] at hp
              exact hp
        · rw [if_neg hz] at hp
          exact hp
theorem sx_only {post : Int32 → Prop} {c n : Nat} (C : sp_cls nc fc pa ups) (M : sp_mth nc nm fc hm na ln br dc) (F : sp_fd nc pa fc ups hm dc fd) (A : ∀ a b, a < nc → b < 10 → xfd (10 * a + b) = oI (fd a b)) (hc : c < nc) (hn : n < 10)
    (hp : post (oI (sp_onl (fun d => bt xmd d && bt (ups d) c) (fun d => fd d n) br nc 0 none))) : wpX_only post ((nI nc), (nI nm), (nI nr), xnd, xmd, xnh, xlv, xq, xs, xbt, xft, xdp, xst, xss, xpt, xtr, xsm, fc, (oF pa), xfs, ups, (nF hm), (nF na), br, (nF ln), (nF op), ic, ii, xdc, xfd, (nF rk), rc, rn, xqu, xwt, xsi, xtg, xnw, xfa, xsg, xnn, xtk, xrl, bop, bcl, bin, bsk, bme, bli, bou, xnf, xfm, xfl, xfh, xou, xem, xel) (nI c) (nI n) :=
  ⟨nc + 1, sx_only5 C M F A hc hn nc 0 none (by omega) (fun x e => by cases e) hp⟩
theorem sy_target36 {post : Int32 → Prop} {i : Nat} (C : sp_cls nc fc pa ups) (M : sp_mth nc nm fc hm na ln br dc) (F : sp_fd nc pa fc ups hm dc fd) (hi : i < 180) (hc : cl i < nc) (hs : sc i = nI (nn i)) (hn : nn i < 10) (o2 : op i = 2) {g0 : Nat} (hg0 : fd (cl i) (nn i) = some g0) :
    ∀ k d t, d + k = nc → (∀ x, t = some x → x < nm) → post (oI (sp_onl (fun d => bt ymd d && bt (ups d) (cl i)) (fun d => fd d (nn i)) br k d t)) → wY_target_36 post (nI i) (nI (cl i)) (nI nc) (nI nm) (nI nr) ypl ynd ymd ynh ylv ybt ydp yst yot yen fc br (oF pa) ups yow yma (nF hm) (nF na) (nF ln) (nF op) fs sc (nF rk) rc rn yil ynu ynn yfa yvm yvl yvh ypu (k + 1) (oI t) (nI d) := by
  intro k
  induction k with
  | zero =>
    intro d t hd ht hp
    rw [wY_target_36]
    have h10 := C.1
    exact pk_le nc d (fun _ => hp) (fun h => by omega)
  | succ k ih =>
    intro d t hd ht hp
    have h10 := C.1
    have h30 := M.1
    rw [sp_onl] at hp
    rw [wY_target_36]
    refine pk_le nc d (fun h => by omega) (fun h => ?_)
    rw [nI_clamp (n := d) (by omega), nI_clamp (n := i) (by omega), nF_a, o2, hs]
    refine ⟨vp_in_nI hi (by decide), br_t rfl (yh_b (by omega) (fun hb => ?_) (fun hb => ⟨vp_in_nI (by omega) (by decide), yh_b (by omega) (fun hb2 => ?_) (fun hb2 => ⟨vp_in_nI hi (by decide), ?_⟩)⟩))⟩
    · rw [if_neg (by simp [hb])] at hp
      exact nm_r (nI_1 d) (ih (d + 1) t (by omega) ht hp)
    · rw [if_neg (by simp [hb2])] at hp
      exact nm_r (nI_1 d) (ih (d + 1) t (by omega) ht hp)
    · rw [if_pos (by simp [hb, hb2])] at hp
      refine sy_finds C M F h hn ?_
      obtain ⟨g, ef⟩ := sp_below C M F h hb2 hg0
      rw [ef] at hp
      dsimp only at hp
      have hg := (sp_sound C M F d (nn i) g h ef).1
      rw [ef, oI_s]
      have h108 : (t = none ∨ t = some g) → wY_target_108 post (wY_target_36 post (nI i) (nI (cl i)) (nI nc) (nI nm) (nI nr) ypl ynd ymd ynh ylv ybt ydp yst yot yen fc br (oF pa) ups yow yma (nF hm) (nF na) (nF ln) (nF op) fs sc (nF rk) rc rn yil ynu ynn yfa yvm yvl yvh ypu (k + 1)) (nI i) (nI (cl i)) (nI d) (nI g) (nI nc) (nI nm) (nI nr) ypl ynd ymd ynh ylv ybt ydp yst yot yen fc br (oF pa) ups yow yma (nF hm) (nF na) (nF ln) (nF op) fs sc (nF rk) rc rn yil ynu ynn yfa yvm yvl yvh ypu := by
        intro ht2
        unfold wY_target_108
        rw [nI_clamp (n := g) (by omega)]
        refine ⟨vp_in_nI (by omega) (by decide), br_c (fun hz => ?_) (fun hz => ?_)⟩
        · rw [if_pos hz] at hp
          refine nm_r (nI_1 d) (ih (d + 1) (some g) (by omega) (fun x e => by cases e; exact hg) ?_)
          rcases ht2 with e | e
          · rw [e] at hp; exact hp
          · rw [e] at hp; dsimp only at hp; rw [if_pos rfl] at hp; exact hp
        · rw [if_neg hz] at hp
          exact hp
      cases t with
      | none => exact br_t (by decide) (h108 (Or.inl rfl))
      | some t' =>
        have ht' := ht t' rfl
        rw [oI_s]
        refine br_f (nI_pos (by omega)) (pk_eq g t' (fun e => h108 (Or.inr (by rw [e]))) (fun e => ?_))
        dsimp only at hp
        have ht2 : ¬ t' = g := fun z => e z.symm
        rw [if_neg ht2] at hp
        by_cases hz : br g = 0
        · rw [if_pos hz] at hp; exact hp
        · rw [if_neg hz] at hp; exact hp
theorem sy_target {post : Int32 → Prop} {m k : Nat} (C : sp_cls nc fc pa ups) (M : sp_mth nc nm fc hm na ln br dc) (N : sp_ins nm ln op cl nn ic ii fs sc) (F : sp_fd nc pa fc ups hm dc fd) (W : sp_ok nc nm fc br ln op cl nn fd) (hm' : m < nm) (hk : k < ln m) (o23 : op (6 * m + k) = 2 ∨ op (6 * m + k) = 3)
    (hp : post (oI (sp_tc nc ups br op cl nn fd ymd (6 * m + k)))) : wpY_target post ((nI nc), (nI nm), (nI nr), ypl, ynd, ymd, ynh, ylv, ybt, ydp, yst, yot, yen, fc, br, (oF pa), ups, yow, yma, (nF hm), (nF na), (nF ln), (nF op), fs, sc, (nF rk), rc, rn, yil, ynu, ynn, yfa, yvm, yvl, yvh, ypu) (nI (6 * m + k)) := by
  have h10 := C.1
  have h30 := M.1
  have hl := (M.2.1 m hm').2.2.1
  obtain ⟨n1, n2, n3, n4, n5, n6⟩ := N m k hm' hk
  have hc := sp_okc W hm' hk (by omega) (by omega)
  obtain ⟨g, hg, hg3⟩ := sp_okf W hm' hk o23
  have hi : 6 * m + k < 180 := by omega
  generalize hie : 6 * m + k = i at *
  obtain ⟨e1, e2, e3⟩ := n4 (by omega) (by omega)
  obtain ⟨f1, f2, f3⟩ := n5 o23
  have hv : vp_in (nI i) 180 := vp_in_nI hi (by decide)
  have hgm := (sp_sound C M F _ _ g hc hg).1
  unfold wpY_target
  dsimp only
  rw [nI_clamp (n := i) (by omega), nF_a, e2, f2]
  unfold sp_tc at hp
  refine ⟨hv, nm_e ⟨hv, pk_eq (op i) 3 (fun o3 => ⟨hv, sy_finds C M F hc f3 ⟨1, ?_⟩⟩) (fun o3 => ⟨nc + 1, ?_⟩)⟩⟩
  · rw [if_pos o3] at hp
    rw [wY_target_36]
    dsimp only
    rw [nI_clamp (n := i) (by omega), nF_a, ← nI_0]
    exact pk_le nc 0 (fun _ => hp) (fun _ => ⟨hv, br_f (by rw [o3]; decide) hp⟩)
  · rw [if_neg o3, if_pos (by omega)] at hp
    exact sy_target36 C M F hi hc f2 f3 (by omega) hg nc 0 none (by omega) (fun x e => by cases e) hp
end
end
section
/-! inlining: the loops of both -/
section
variable {nc nm nr : Nat} {pa : Nat → Option Nat} {hm na ln op rk cl nn : Nat → Nat} {fc ups br ic ii fs sc rc rn : Nat → Int32} {dc fd : Nat → Nat → Option Nat}
variable {xnd xmd xnh xlv xq xs xbt xft xdp xst xss xpt xtr xsm : Int32} {xfs xdc xfd xqu xwt xsi xtg xnw xfa xsg xnn xtk xrl bop bcl bin bsk bme bli bou xnf xfm xfl xfh xou xem xel : Nat → Int32}
variable {ypl ynd ymd ynh ylv ybt ydp yst yot yen : Int32} {yow yma yil ynu ynn yfa yvm yvl yvh ypu : Nat → Int32}
variable {lv md : Int32}
theorem sp_tgv {m k : Nat} (hk : k < 6) : sp_tg nc ups br ln op cl nn fd lv md (6 * m + k) = if k < ln m ∧ bt lv m = true then sp_cut ln op m (sp_tc nc ups br op cl nn fd md (6 * m + k)) else none := by
  have e1 : (6 * m + k) % 6 = k := by omega
  have e2 : (6 * m + k) / 6 = m := by omega
  unfold sp_tg
  rw [e1, e2]
/-- up to b the targets stand, behind it there are none -/
def sp_tgI (nm : Nat) (tg : Nat → Option Nat) (x : Nat → Int32) (b : Nat) : Prop := (∀ j, j < 6 * nm → j < b → x j = oI (tg j)) ∧ (∀ j, j < 6 * nm → b ≤ j → x j = -1)
theorem sp_tgI_1 {tg : Nat → Option Nat} {x : Nat → Int32} {b t : Nat} (h : sp_tgI nm tg x b) (e : tg b = some t) : sp_tgI nm tg (upd x b (nI t)) (b + 1) := by
  refine ⟨fun j hj hb => ?_, fun j hj hb => ?_⟩
  · by_cases z : j = b
    · rw [z, pk_us, e]; rfl
    · rw [pk_un z]; exact h.1 j hj (by omega)
  · rw [pk_un (by omega)]; exact h.2 j hj (by omega)
theorem sp_tgI_0 {tg : Nat → Option Nat} {x : Nat → Int32} {b : Nat} (h : sp_tgI nm tg x b) (hb : b < 6 * nm) (e : tg b = none) : sp_tgI nm tg x (b + 1) := by
  refine ⟨fun j hj hb' => ?_, fun j hj hb => h.2 j hj (by omega)⟩
  by_cases z : j = b
  · rw [z, e]; exact h.2 b hb (Nat.le_refl _)
  · exact h.1 j hj (by omega)
theorem sx_inline97 {post : SX → Prop} {J2 J15 : Int32 → (Nat → Int32) → (Nat → Int32) → (Nat → Int32) → (Nat → Int32) → (Nat → Int32) → (Nat → Int32) → (Nat → Int32) → (Nat → Int32) → (Nat → Int32) → (Nat → Int32) → (Nat → Int32) → (Nat → Int32) → (Nat → Int32) → (Nat → Int32) → (Nat → Int32) → (Nat → Int32) → (Nat → Int32) → (Nat → Int32) → (Nat → Int32) → (Nat → Int32) → (Nat → Int32) → (Nat → Int32) → (Nat → Int32) → (Nat → Int32) → (Nat → Int32) → (Nat → Int32) → (Nat → Int32) → (Nat → Int32) → (Nat → Int32) → (Nat → Int32) → (Nat → Int32) → (Nat → Int32) → (Nat → Int32) → (Nat → Int32) → (Nat → Int32) → (Nat → Int32) → (Nat → Int32) → (Nat → Int32) → (Nat → Int32) → (Nat → Int32) → Prop} {m i : Nat} {o : Option Nat} (M : sp_mth nc nm fc hm na ln br dc) (N : sp_ins nm ln op cl nn ic ii fs sc) (hm' : m < nm) (hi : i < 180) (ho : ∀ t, o = some t → t < nm)
    (K0 : sp_cut ln op m o = none → J15 (nI (i + 1)) fc (oF pa) xfs ups (nF hm) (nF na) br (nF ln) (nF op) ic ii xdc xfd (nF rk) rc rn xqu xwt xsi xtg xnw xfa xsg xnn xtk xrl bop bcl bin bsk bme bli bou xnf xfm xfl xfh xou xem xel) (K1 : ∀ t, sp_cut ln op m o = some t → J15 (nI (i + 1)) fc (oF pa) xfs ups (nF hm) (nF na) br (nF ln) (nF op) ic ii xdc xfd (nF rk) rc rn xqu xwt xsi (upd xtg i (nI t)) xnw xfa xsg xnn xtk xrl bop bcl bin bsk bme bli bou xnf xfm xfl xfh xou xem xel) : wX_inline_97 post J2 J15 (nI m) (nI i) (oI o) (nI nc) (nI nm) (nI nr) xnd xmd xnh xlv xq xs xbt xft xdp xst xss xpt xtr xsm fc (oF pa) xfs ups (nF hm) (nF na) br (nF ln) (nF op) ic ii xdc xfd (nF rk) rc rn xqu xwt xsi xtg xnw xfa xsg xnn xtk xrl bop bcl bin bsk bme bli bou xnf xfm xfl xfh xou xem xel := by
  have h30 := M.1
  unfold wX_inline_97
  cases o with
  | none => exact br_t (by decide) (nm_r (nI_1 i) (K0 rfl))
  | some t =>
    have ht := ho t rfl
    rw [oI_s, nI_clamp (n := i) (by omega), sd_vbb (by omega)]
    refine br_f (nI_pos (by omega)) (pk_eq t m (fun e => nm_r (nI_1 i) (K0 ?_)) (fun e => sx_isShort M (fun k hk => (N t k ht hk).1) ht (fun hs => nm_r (nI_1 i) (K0 ?_)) (fun hs => ⟨vp_in_nI hi (by decide), nm_e (nm_r (nI_1 i) (K1 t ?_))⟩)))
    · show (if t ≠ m ∧ sp_sh ln op t then some t else none) = none
      rw [if_neg (fun z => z.1 e)]
    · show (if t ≠ m ∧ sp_sh ln op t then some t else none) = none
      rw [if_neg (fun z => hs z.2)]
    · show (if t ≠ m ∧ sp_sh ln op t then some t else none) = some t
      rw [if_pos ⟨e, hs⟩]
theorem sx_inline15 {post : SX → Prop} {J2 : Int32 → (Nat → Int32) → (Nat → Int32) → (Nat → Int32) → (Nat → Int32) → (Nat → Int32) → (Nat → Int32) → (Nat → Int32) → (Nat → Int32) → (Nat → Int32) → (Nat → Int32) → (Nat → Int32) → (Nat → Int32) → (Nat → Int32) → (Nat → Int32) → (Nat → Int32) → (Nat → Int32) → (Nat → Int32) → (Nat → Int32) → (Nat → Int32) → (Nat → Int32) → (Nat → Int32) → (Nat → Int32) → (Nat → Int32) → (Nat → Int32) → (Nat → Int32) → (Nat → Int32) → (Nat → Int32) → (Nat → Int32) → (Nat → Int32) → (Nat → Int32) → (Nat → Int32) → (Nat → Int32) → (Nat → Int32) → (Nat → Int32) → (Nat → Int32) → (Nat → Int32) → (Nat → Int32) → (Nat → Int32) → (Nat → Int32) → (Nat → Int32) → Prop} {m : Nat} (C : sp_cls nc fc pa ups) (M : sp_mth nc nm fc hm na ln br dc) (N : sp_ins nm ln op cl nn ic ii fs sc) (F : sp_fd nc pa fc ups hm dc fd) (W : sp_ok nc nm fc br ln op cl nn fd) (A : ∀ a b, a < nc → b < 10 → xfd (10 * a + b) = oI (fd a b)) (hm' : m < nm)
    (K : ∀ xtg : Nat → Int32, sp_tgI nm (sp_tg nc ups br ln op cl nn fd xlv xmd) xtg (6 * (m + 1)) → J2 (nI (m + 1)) fc (oF pa) xfs ups (nF hm) (nF na) br (nF ln) (nF op) ic ii xdc xfd (nF rk) rc rn xqu xwt xsi xtg xnw xfa xsg xnn xtk xrl bop bcl bin bsk bme bli bou xnf xfm xfl xfh xou xem xel) :
    ∀ fuel k (xtg : Nat → Int32), k ≤ ln m → ln m - k < fuel → sp_tgI nm (sp_tg nc ups br ln op cl nn fd xlv xmd) xtg (6 * m + k) → wX_inline_15 post J2 (nI m) (nI nc) (nI nm) (nI nr) xnd xmd xnh xlv xq xs xbt xft xdp xst xss xpt xtr xsm fuel (nI (6 * m + k)) fc (oF pa) xfs ups (nF hm) (nF na) br (nF ln) (nF op) ic ii xdc xfd (nF rk) rc rn xqu xwt xsi xtg xnw xfa xsg xnn xtk xrl bop bcl bin bsk bme bli bou xnf xfm xfl xfh xou xem xel := by
  intro fuel
  induction fuel with
  | zero => intro k _ _ h; omega
  | succ fu ih =>
    intro k xtg hk hf I
    have h10 := C.1
    have h30 := M.1
    have hl := (M.2.1 m hm').2.2.1
    have hend : (∀ j, k ≤ j → j < 6 → sp_tg nc ups br ln op cl nn fd xlv xmd (6 * m + j) = none) → ∀ y, y = nI m + 1 → J2 y fc (oF pa) xfs ups (nF hm) (nF na) br (nF ln) (nF op) ic ii xdc xfd (nF rk) rc rn xqu xwt xsi xtg xnw xfa xsg xnn xtk xrl bop bcl bin bsk bme bli bou xnf xfm xfl xfh xou xem xel := fun hn =>
      nm_r (nI_1 m) (K xtg ⟨fun j hj hb => by
        rcases Nat.lt_or_ge j (6 * m + k) with z | z
        · exact I.1 j hj z
        · have e : j = 6 * m + (j - 6 * m) := by omega
          rw [e, hn (j - 6 * m) (by omega) (by omega), ← e]
          exact I.2 j hj z, fun j hj hb => I.2 j hj (by omega)⟩)
    rw [wX_inline_15]
    dsimp only
    rw [sd_x6, nI_clamp (n := m) (by omega), nI_clamp (n := 6 * m + k) (by omega), nF_a, nF_a, nI_add]
    refine ⟨vp_in_nI (by omega) (by decide), pk_le (6 * m + ln m) (6 * m + k) (fun h => hend (fun j hj h6 => by rw [sp_tgv h6, if_neg (by omega)])) (fun h => ?_)⟩
    have hk' : k < ln m := by omega
    refine xh_b (by omega) (fun hb => hend (fun j hj h6 => by rw [sp_tgv h6, if_neg (by rw [hb]; simp)])) (fun hb => ?_)
    have hi : 6 * m + k < 180 := by omega
    have hv : vp_in (nI (6 * m + k)) 180 := vp_in_nI hi (by decide)
    obtain ⟨n1, n2, n3, n4, n5, n6⟩ := N m k hm' hk'
    have hcc := sp_okc W hm' hk'
    have etg : sp_tg nc ups br ln op cl nn fd xlv xmd (6 * m + k) = sp_cut ln op m (sp_tc nc ups br op cl nn fd xmd (6 * m + k)) := by
      rw [sp_tgv (by omega), if_pos ⟨hk', hb⟩]
    have htc : ∀ t, sp_tc nc ups br op cl nn fd xmd (6 * m + k) = some t → t < nm := fun t e => (sp_tcs C M F (fun o3 => hcc (by omega) (by omega)) e).1
    have h97 : ∀ o, sp_tc nc ups br op cl nn fd xmd (6 * m + k) = o → wX_inline_97 post J2 (wX_inline_15 post J2 (nI m) (nI nc) (nI nm) (nI nr) xnd xmd xnh xlv xq xs xbt xft xdp xst xss xpt xtr xsm fu) (nI m) (nI (6 * m + k)) (oI o) (nI nc) (nI nm) (nI nr) xnd xmd xnh xlv xq xs xbt xft xdp xst xss xpt xtr xsm fc (oF pa) xfs ups (nF hm) (nF na) br (nF ln) (nF op) ic ii xdc xfd (nF rk) rc rn xqu xwt xsi xtg xnw xfa xsg xnn xtk xrl bop bcl bin bsk bme bli bou xnf xfm xfl xfh xou xem xel := by
      intro o eo
      rw [eo] at etg htc
      exact sx_inline97 M N hm' hi htc (fun e => ih (k + 1) xtg (by omega) (by omega) (sp_tgI_0 (b := 6 * m + k) I (by omega) (etg.trans e))) (fun t e => ih (k + 1) _ (by omega) (by omega) (sp_tgI_1 I (etg.trans e)))
    have h70 : ∀ o, (op (6 * m + k) ≠ 2 → sp_tc nc ups br op cl nn fd xmd (6 * m + k) = o) → wX_inline_70 post J2 (wX_inline_15 post J2 (nI m) (nI nc) (nI nm) (nI nr) xnd xmd xnh xlv xq xs xbt xft xdp xst xss xpt xtr xsm fu) (nI m) (nI (6 * m + k)) (oI o) (nI nc) (nI nm) (nI nr) xnd xmd xnh xlv xq xs xbt xft xdp xst xss xpt xtr xsm fc (oF pa) xfs ups (nF hm) (nF na) br (nF ln) (nF op) ic ii xdc xfd (nF rk) rc rn xqu xwt xsi xtg xnw xfa xsg xnn xtk xrl bop bcl bin bsk bme bli bou xnf xfm xfl xfh xou xem xel := by
      intro o eo
      unfold wX_inline_70
      rw [nI_clamp (n := 6 * m + k) (by omega), nF_a]
      refine ⟨hv, pk_eq (op (6 * m + k)) 2 (fun o2 => ⟨hv, hv, ?_⟩) (fun o2 => h97 o (eo o2))⟩
      obtain ⟨e1, e2, e3⟩ := n4 (by omega) (by omega)
      obtain ⟨f1, f2, f3⟩ := n5 (Or.inl o2)
      rw [e1, f1]
      refine sx_only C M F A (hcc (by omega) (by omega)) f3 (h97 _ ?_)
      unfold sp_tc
      rw [if_neg (by omega), if_pos o2]
    refine ⟨hv, pk_eq (op (6 * m + k)) 3 (fun o3 => ⟨hv, hv, ?_⟩) (fun o3 => h70 none (fun o2 => ?_))⟩
    · obtain ⟨e1, e2, e3⟩ := n4 (by omega) (by omega)
      obtain ⟨f1, f2, f3⟩ := n5 (Or.inr o3)
      rw [e1, f1]
      refine sx_found h10 A (hcc (by omega) (by omega)) f3 (h70 _ (fun _ => ?_))
      unfold sp_tc
      rw [if_pos o3]
    · unfold sp_tc
      rw [if_neg o3, if_neg o2]
theorem sx_inline2 {post : SX → Prop} (C : sp_cls nc fc pa ups) (M : sp_mth nc nm fc hm na ln br dc) (N : sp_ins nm ln op cl nn ic ii fs sc) (F : sp_fd nc pa fc ups hm dc fd) (W : sp_ok nc nm fc br ln op cl nn fd) (A : ∀ a b, a < nc → b < 10 → xfd (10 * a + b) = oI (fd a b))
    (K : ∀ xtg : Nat → Int32, (∀ j, j < 6 * nm → xtg j = oI (sp_tg nc ups br ln op cl nn fd xlv xmd j)) → post ((nI nc), (nI nm), (nI nr), xnd, xmd, xnh, xlv, xq, xs, xbt, xft, xdp, xst, xss, xpt, xtr, xsm, fc, (oF pa), xfs, ups, (nF hm), (nF na), br, (nF ln), (nF op), ic, ii, xdc, xfd, (nF rk), rc, rn, xqu, xwt, xsi, xtg, xnw, xfa, xsg, xnn, xtk, xrl, bop, bcl, bin, bsk, bme, bli, bou, xnf, xfm, xfl, xfh, xou, xem, xel)) :
    ∀ fuel m (xtg : Nat → Int32), m ≤ nm → nm - m < fuel → sp_tgI nm (sp_tg nc ups br ln op cl nn fd xlv xmd) xtg (6 * m) → wX_inline_2 post (nI nc) (nI nm) (nI nr) xnd xmd xnh xlv xq xs xbt xft xdp xst xss xpt xtr xsm fuel (nI m) fc (oF pa) xfs ups (nF hm) (nF na) br (nF ln) (nF op) ic ii xdc xfd (nF rk) rc rn xqu xwt xsi xtg xnw xfa xsg xnn xtk xrl bop bcl bin bsk bme bli bou xnf xfm xfl xfh xou xem xel := by
  intro fuel
  induction fuel with
  | zero => intro m _ _ h; omega
  | succ fu ih =>
    intro m xtg hm' hf I
    have h30 := M.1
    rw [wX_inline_2]
    dsimp only
    rw [sd_x6]
    refine pk_le nm m (fun h => K xtg (fun j hj => I.1 j hj (by omega))) (fun h => nm_e ⟨ln m + 1, ?_⟩)
    exact sx_inline15 C M N F W A h (fun xtg' I' => ih (m + 1) xtg' (by omega) (by omega) I') (ln m + 1) 0 xtg (by omega) (by omega) I
theorem sx_inline {post : SX → Prop} (C : sp_cls nc fc pa ups) (M : sp_mth nc nm fc hm na ln br dc) (N : sp_ins nm ln op cl nn ic ii fs sc) (F : sp_fd nc pa fc ups hm dc fd) (W : sp_ok nc nm fc br ln op cl nn fd) (A : ∀ a b, a < nc → b < 10 → xfd (10 * a + b) = oI (fd a b)) (h0 : ∀ j, j < 6 * nm → xtg j = -1)
    (K : ∀ xtg : Nat → Int32, (∀ j, j < 6 * nm → xtg j = oI (sp_tg nc ups br ln op cl nn fd xlv xmd j)) → post ((nI nc), (nI nm), (nI nr), xnd, xmd, xnh, xlv, xq, xs, xbt, xft, xdp, xst, xss, xpt, xtr, xsm, fc, (oF pa), xfs, ups, (nF hm), (nF na), br, (nF ln), (nF op), ic, ii, xdc, xfd, (nF rk), rc, rn, xqu, xwt, xsi, xtg, xnw, xfa, xsg, xnn, xtk, xrl, bop, bcl, bin, bsk, bme, bli, bou, xnf, xfm, xfl, xfh, xou, xem, xel)) : wpX_inline post ((nI nc), (nI nm), (nI nr), xnd, xmd, xnh, xlv, xq, xs, xbt, xft, xdp, xst, xss, xpt, xtr, xsm, fc, (oF pa), xfs, ups, (nF hm), (nF na), br, (nF ln), (nF op), ic, ii, xdc, xfd, (nF rk), rc, rn, xqu, xwt, xsi, xtg, xnw, xfa, xsg, xnn, xtk, xrl, bop, bcl, bin, bsk, bme, bli, bou, xnf, xfm, xfl, xfh, xou, xem, xel) :=
  ⟨nm + 1, sx_inline2 C M N F W A K (nm + 1) 0 xtg (by omega) (by omega) ⟨fun j _ hj => by omega, fun j hj _ => h0 j hj⟩⟩
theorem sy_build113 {post : Int32 → SY → Prop} {J49 : Int32 → (Nat → Int32) → (Nat → Int32) → (Nat → Int32) → (Nat → Int32) → (Nat → Int32) → (Nat → Int32) → (Nat → Int32) → (Nat → Int32) → (Nat → Int32) → (Nat → Int32) → (Nat → Int32) → (Nat → Int32) → (Nat → Int32) → (Nat → Int32) → (Nat → Int32) → (Nat → Int32) → (Nat → Int32) → (Nat → Int32) → (Nat → Int32) → (Nat → Int32) → (Nat → Int32) → (Nat → Int32) → (Nat → Int32) → Prop} {m k i : Nat} (hie : 6 * m + k = i) (C : sp_cls nc fc pa ups) (M : sp_mth nc nm fc hm na ln br dc) (N : sp_ins nm ln op cl nn ic ii fs sc) (F : sp_fd nc pa fc ups hm dc fd) (W : sp_ok nc nm fc br ln op cl nn fd) (hm' : m < nm) (hk : k < ln m) (o23 : op (6 * m + k) = 2 ∨ op (6 * m + k) = 3)
    (K0 : sp_cut ln op m (sp_tc nc ups br op cl nn fd ymd i) = none → J49 (nI (i + 1)) fc br (oF pa) ups yow yma (nF hm) (nF na) (nF ln) (nF op) fs sc (nF rk) rc rn yil ynu ynn yfa yvm yvl yvh ypu) (K1 : ∀ t, sp_cut ln op m (sp_tc nc ups br op cl nn fd ymd i) = some t → J49 (nI (i + 1)) fc br (oF pa) ups yow yma (nF hm) (nF na) (nF ln) (nF op) fs sc (nF rk) rc rn (upd yil i (nI t)) ynu ynn yfa yvm yvl yvh ypu) : wY_build_113 post J49 (nI i) (nI nc) (nI nm) (nI nr) ypl ynd ymd ynh ylv ybt ydp yst yot yen fc br (oF pa) ups yow yma (nF hm) (nF na) (nF ln) (nF op) fs sc (nF rk) rc rn yil ynu ynn yfa yvm yvl yvh ypu := by
  subst hie
  have h10 := C.1
  have h30 := M.1
  have hl := (M.2.1 m hm').2.2.1
  have hi : 6 * m + k < 180 := by omega
  have htc : ∀ t, sp_tc nc ups br op cl nn fd ymd (6 * m + k) = some t → t < nm := fun t e => (sp_tcs C M F (fun o3 => sp_okc W hm' hk (by omega) (by omega)) e).1
  unfold wY_build_113
  refine sy_target C M N F W hm' hk o23 ?_
  have e6 : (6 * m + k) / 6 = m := by omega
  rw [sd_d6 (by omega), e6, nI_clamp (n := 6 * m + k) (by omega)]
  cases eo : sp_tc nc ups br op cl nn fd ymd (6 * m + k) with
  | none => exact br_t (by decide) (nm_r (nI_1 _) (K0 (by rw [eo]; rfl)))
  | some t =>
    rw [eo] at K0 K1
    have ht := htc t eo
    rw [oI_s]
    refine br_f (nI_pos (by omega)) ⟨sd_60, pk_eq t m (fun e => nm_r (nI_1 _) (K0 ?_)) (fun e => sy_isShort M (fun k hk => (N t k ht hk).1) ht (fun hs => nm_r (nI_1 _) (K0 ?_)) (fun hs => ⟨vp_in_nI hi (by decide), nm_e (nm_r (nI_1 _) (K1 t ?_))⟩))⟩
    · show (if t ≠ m ∧ sp_sh ln op t then some t else none) = none
      rw [if_neg (fun z => z.1 e)]
    · show (if t ≠ m ∧ sp_sh ln op t then some t else none) = none
      rw [if_neg (fun z => hs z.2)]
    · show (if t ≠ m ∧ sp_sh ln op t then some t else none) = some t
      rw [if_pos ⟨e, hs⟩]
theorem sy_build49 {post : Int32 → SY → Prop} (C : sp_cls nc fc pa ups) (M : sp_mth nc nm fc hm na ln br dc) (N : sp_ins nm ln op cl nn ic ii fs sc) (F : sp_fd nc pa fc ups hm dc fd) (W : sp_ok nc nm fc br ln op cl nn fd)
    (K : ∀ (f : Nat) (yil : Nat → Int32), (∀ j, j < 6 * nm → yil j = oI (sp_tg nc ups br ln op cl nn fd ylv ymd j)) → wY_build_49 post (nI nc) (nI nm) (nI nr) ypl ynd ymd ynh ylv ybt ydp yst yot yen (f + 1) (nI (6 * nm)) fc br (oF pa) ups yow yma (nF hm) (nF na) (nF ln) (nF op) fs sc (nF rk) rc rn yil ynu ynn yfa yvm yvl yvh ypu) :
    ∀ fuel i (yil : Nat → Int32), i ≤ 6 * nm → 6 * nm - i < fuel → sp_tgI nm (sp_tg nc ups br ln op cl nn fd ylv ymd) yil i → wY_build_49 post (nI nc) (nI nm) (nI nr) ypl ynd ymd ynh ylv ybt ydp yst yot yen fuel (nI i) fc br (oF pa) ups yow yma (nF hm) (nF na) (nF ln) (nF op) fs sc (nF rk) rc rn yil ynu ynn yfa yvm yvl yvh ypu := by
  intro fuel
  induction fuel with
  | zero => intro i _ _ h; omega
  | succ fu ih =>
    intro i yil hi hf I
    have h10 := C.1
    have h30 := M.1
    rcases Nat.lt_or_ge i (6 * nm) with h | h
    · have hq : i / 6 < nm := by omega
      have hl := (M.2.1 (i / 6) hq).2.2.1
      have hsplit : 6 * (i / 6) + i % 6 = i := by omega
      have hv : vp_in (nI i) 180 := vp_in_nI (by omega) (by decide)
      have hskip : sp_tg nc ups br ln op cl nn fd ylv ymd i = none → ∀ y, y = nI i + 1 → wY_build_49 post (nI nc) (nI nm) (nI nr) ypl ynd ymd ynh ylv ybt ydp yst yot yen fu y fc br (oF pa) ups yow yma (nF hm) (nF na) (nF ln) (nF op) fs sc (nF rk) rc rn yil ynu ynn yfa yvm yvl yvh ypu := fun e =>
        nm_r (nI_1 i) (ih (i + 1) yil (by omega) (by omega) (sp_tgI_0 I h e))
      rw [wY_build_49]
      dsimp only
      rw [sd_x6]
      refine pk_le (6 * nm) i (fun z => by omega) (fun _ => ?_)
      rw [sd_r6 (by omega), sd_d6 (by omega), nI_clamp (n := i / 6) (by omega), nI_clamp (n := i) (by omega), nF_a, nF_a]
      refine ⟨sd_60, yh_b (by omega) (fun hb => hskip ?_) (fun hb => ⟨sd_60, sd_60, vp_in_nI (by omega) (by decide), pk_le (ln (i / 6)) (i % 6) (fun hk => hskip ?_) (fun hk => ⟨hv, ?_⟩)⟩)⟩
      · unfold sp_tg; rw [if_neg (by rw [hb]; simp)]
      · unfold sp_tg; rw [if_neg (by omega)]
      · have etg : sp_tg nc ups br ln op cl nn fd ylv ymd i = sp_cut ln op (i / 6) (sp_tc nc ups br op cl nn fd ymd i) := by
          unfold sp_tg; rw [if_pos ⟨hk, hb⟩]
        have ho : op i < 6 := by have := (N (i / 6) (i % 6) hq hk).1; rw [hsplit] at this; exact this
        have h113 : op i = 2 ∨ op i = 3 → wY_build_113 post (wY_build_49 post (nI nc) (nI nm) (nI nr) ypl ynd ymd ynh ylv ybt ydp yst yot yen fu) (nI i) (nI nc) (nI nm) (nI nr) ypl ynd ymd ynh ylv ybt ydp yst yot yen fc br (oF pa) ups yow yma (nF hm) (nF na) (nF ln) (nF op) fs sc (nF rk) rc rn yil ynu ynn yfa yvm yvl yvh ypu := fun o23 =>
          sy_build113 hsplit C M N F W hq hk (by rw [hsplit]; exact o23) (fun e => ih (i + 1) yil (by omega) (by omega) (sp_tgI_0 I h (etg.trans e))) (fun t e => ih (i + 1) _ (by omega) (by omega) (sp_tgI_1 I (etg.trans e)))
        refine pk_eq (op i) 2 (fun o2 => h113 (Or.inl o2)) (fun o2 => ⟨hv, pk_eq (op i) 3 (fun o3 => h113 (Or.inr o3)) (fun o3 => hskip ?_)⟩)
        rw [etg]
        unfold sp_tc
        rw [if_neg o3, if_neg o2]
        rfl
    · have e : i = 6 * nm := by omega
      rw [e]
      exact K fu yil (fun j hj => I.1 j hj (by omega))
end
end
section
/-! new numbers of classes -/
def sp_kc (nr : Nat) (rc : Nat → Int32) (c : Nat) : Prop := ∃ r, r < nr ∧ bt (rc r) c = true
def sp_us (nc nr : Nat) (rc : Nat → Int32) (nd : Int32) (nw : Nat → Option Nat) (c j : Nat) : Prop :=
  (j < nc ∧ bt nd j = true ∧ sp_kc nr rc j) ∨ ∃ d, d < c ∧ bt nd d = true ∧ ¬ sp_kc nr rc d ∧ nw d = some j
def sp_num1 (nc nr : Nat) (rc : Nat → Int32) (nd : Int32) (nw : Nat → Option Nat) (c : Nat) : Prop :=
  (¬ bt nd c = true → nw c = none) ∧ (bt nd c = true → sp_kc nr rc c → nw c = some c) ∧
  (bt nd c = true → ¬ sp_kc nr rc c → ∃ k, nw c = some k ∧ ¬ sp_us nc nr rc nd nw c k ∧ ∀ j, j < k → sp_us nc nr rc nd nw c j)
def sp_num (nc nr : Nat) (rc : Nat → Int32) (nd : Int32) (nw : Nat → Option Nat) : Prop := ∀ c, c < nc → sp_num1 nc nr rc nd nw c
section
variable {nc nr : Nat} {rc : Nat → Int32} {nd : Int32} {nw : Nat → Option Nat}
theorem sp_numB (h10 : nc ≤ 10) : ∀ c, c ≤ nc → (∀ d, d < c → sp_num1 nc nr rc nd nw d) → ∀ d k, d < c → nw d = some k → k < 10 + d + 1 := by
  intro c hc H d
  induction d using Nat.strongRecOn with
  | ind d ih =>
    intro k hd e
    obtain ⟨h1, h2, h3⟩ := H d hd
    by_cases hn : bt nd d = true
    · by_cases hk : sp_kc nr rc d
      · rw [h2 hn hk] at e; cases e; omega
      · obtain ⟨k', e1, e2, e3⟩ := h3 hn hk
        rw [e1] at e; cases e
        refine Nat.lt_of_not_le (fun z => ?_)
        rcases e3 (10 + d) (by omega) with y | ⟨x, x1, x2, x3, x4⟩
        · omega
        · have := ih x x1 (10 + d) (by omega) x4
          omega
    · rw [h1 hn] at e; cases e
theorem sp_numX (h10 : nc ≤ 10) : ∀ c, c ≤ nc → ∃ nw, ∀ d, d < c → sp_num1 nc nr rc nd nw d := by
  intro c
  induction c with
  | zero => intro _; exact ⟨fun _ => none, fun d hd => by omega⟩
  | succ c ih =>
    intro hc
    obtain ⟨nw, H⟩ := ih (by omega)
    have key : ∃ v, sp_num1 nc nr rc nd (uo nw c v) c := by
      by_cases hn : bt nd c = true
      · by_cases hk : sp_kc nr rc c
        · exact ⟨some c, fun z => absurd hn z, fun _ _ => uo_s, fun _ z => absurd hk z⟩
        · have hus : ∀ v j, sp_us nc nr rc nd (uo nw c v) c j ↔ sp_us nc nr rc nd nw c j := by
            intro v j
            refine or_congr Iff.rfl (exists_congr fun d => ⟨fun ⟨a, b, e, f⟩ => ⟨a, b, e, ?_⟩, fun ⟨a, b, e, f⟩ => ⟨a, b, e, ?_⟩⟩)
            · rw [uo_n (by omega)] at f; exact f
            · rw [uo_n (by omega)]; exact f
          have hex : ∃ k, ¬ sp_us nc nr rc nd nw c k := by
            refine ⟨10 + c, fun z => ?_⟩
            rcases z with y | ⟨x, x1, x2, x3, x4⟩
            · omega
            · have := sp_numB h10 c (by omega) H x _ x1 x4
              omega
          obtain ⟨k, k1, k2⟩ := pk_least _ hex
          refine ⟨some k, fun z => absurd hn z, fun _ z => absurd z hk, fun _ _ => ⟨k, uo_s, fun z => k1 ((hus _ _).mp z), fun j hj => (hus _ _).mpr (Classical.byContradiction (k2 j hj))⟩⟩
      · exact ⟨none, fun _ => uo_s, fun z => absurd z hn, fun z => absurd z hn⟩
    obtain ⟨v, hv⟩ := key
    refine ⟨uo nw c v, fun d hd => ?_⟩
    by_cases z : d = c
    · rw [z]; exact hv
    · obtain ⟨h1, h2, h3⟩ := H d (by omega)
      have hus : ∀ j, sp_us nc nr rc nd (uo nw c v) d j ↔ sp_us nc nr rc nd nw d j := by
        intro j
        refine or_congr Iff.rfl (exists_congr fun x => ⟨fun ⟨a, b, e, f⟩ => ⟨a, b, e, ?_⟩, fun ⟨a, b, e, f⟩ => ⟨a, b, e, ?_⟩⟩)
        · rw [uo_n (by omega)] at f; exact f
        · rw [uo_n (by omega)]; exact f
      refine ⟨fun a => by rw [uo_n z]; exact h1 a, fun a b => by rw [uo_n z]; exact h2 a b, fun a b => ?_⟩
      obtain ⟨k, k1, k2, k3⟩ := h3 a b
      exact ⟨k, by rw [uo_n z]; exact k1, fun y => k2 ((hus k).mp y), fun j hj => (hus j).mpr (k3 j hj)⟩
theorem sp_numI (H : sp_num nc nr rc nd nw) {c d k : Nat} (hc : c < nc) (hd : d < nc) (e1 : nw c = some k) (e2 : nw d = some k) : c = d := by
  have key : ∀ c d, c < nc → d < nc → c < d → nw c = some k → nw d = some k → False := by
    intro c d hc hd hlt e1 e2
    obtain ⟨a1, a2, a3⟩ := H c hc
    obtain ⟨b1, b2, b3⟩ := H d hd
    have nc' : bt nd c = true := Classical.byContradiction (fun z => by rw [a1 z] at e1; cases e1)
    have nd' : bt nd d = true := Classical.byContradiction (fun z => by rw [b1 z] at e2; cases e2)
    by_cases kc : sp_kc nr rc c
    · rw [a2 nc' kc] at e1; cases e1
      by_cases kd : sp_kc nr rc d
      · rw [b2 nd' kd] at e2; cases e2; omega
      · obtain ⟨k', x1, x2, x3⟩ := b3 nd' kd
        rw [x1] at e2; cases e2
        exact x2 (Or.inl ⟨hc, nc', kc⟩)
    · by_cases kd : sp_kc nr rc d
      · rw [b2 nd' kd] at e2; cases e2
        obtain ⟨k', x1, x2, x3⟩ := a3 nc' kc
        rw [x1] at e1; cases e1
        exact x2 (Or.inl ⟨hd, nd', kd⟩)
      · obtain ⟨k', x1, x2, x3⟩ := b3 nd' kd
        rw [x1] at e2; cases e2
        exact x2 (Or.inr ⟨c, hlt, nc', kc, e1⟩)
  rcases Nat.lt_trichotomy c d with z | z | z
  · exact (key c d hc hd z e1 e2).elim
  · exact z
  · exact (key d c hd hc z e2 e1).elim
theorem sp_numN (H : sp_num nc nr rc nd nw) {c : Nat} (hc : c < nc) : bt nd c = true ↔ ∃ k, nw c = some k := by
  obtain ⟨a1, a2, a3⟩ := H c hc
  constructor
  · intro h
    by_cases kc : sp_kc nr rc c
    · exact ⟨c, a2 h kc⟩
    · obtain ⟨k, x1, _⟩ := a3 h kc
      exact ⟨k, x1⟩
  · rintro ⟨k, e⟩
    exact Classical.byContradiction (fun z => by rw [a1 z] at e; cases e)
/-- what is used grows by the new number -/
theorem sp_usS {c k j : Nat} (hn : bt nd c = true) (hk : ¬ sp_kc nr rc c) (e : nw c = some k) : sp_us nc nr rc nd nw (c + 1) j ↔ sp_us nc nr rc nd nw c j ∨ j = k := by
  constructor
  · rintro (y | ⟨d, d1, d2, d3, d4⟩)
    · exact Or.inl (Or.inl y)
    · by_cases z : d = c
      · rw [z, e] at d4; cases d4; exact Or.inr rfl
      · exact Or.inl (Or.inr ⟨d, by omega, d2, d3, d4⟩)
  · rintro ((y | ⟨d, d1, d2, d3, d4⟩) | y)
    · exact Or.inl y
    · exact Or.inr ⟨d, by omega, d2, d3, d4⟩
    · exact Or.inr ⟨c, by omega, hn, hk, by rw [y]; exact e⟩
theorem sp_usN {c j : Nat} (h : ¬ bt nd c = true ∨ sp_kc nr rc c) : sp_us nc nr rc nd nw (c + 1) j ↔ sp_us nc nr rc nd nw c j := by
  constructor
  · rintro (y | ⟨d, d1, d2, d3, d4⟩)
    · exact Or.inl y
    · by_cases z : d = c
      · rw [z] at d2 d3
        exact h.elim (fun w => absurd d2 w) (fun w => absurd w d3)
      · exact Or.inr ⟨d, by omega, d2, d3, d4⟩
  · rintro (y | ⟨d, d1, d2, d3, d4⟩)
    · exact Or.inl y
    · exact Or.inr ⟨d, by omega, d2, d3, d4⟩
theorem sp_us0 {j : Nat} : sp_us nc nr rc nd nw 0 j ↔ j < nc ∧ bt nd j = true ∧ sp_kc nr rc j :=
  ⟨fun z => z.elim id (fun ⟨d, d1, _⟩ => by omega), Or.inl⟩
end
section
variable {nc nm nr : Nat} {pa : Nat → Option Nat} {hm na ln op rk cl nn : Nat → Nat} {fc ups br ic ii fs sc rc rn : Nat → Int32} {dc fd : Nat → Nat → Option Nat}
variable {xnd xmd xnh xlv xq xs xbt xft xdp xst xss xpt xtr xsm : Int32} {xfs xdc xfd xqu xwt xsi xtg xnw xfa xsg xnn xtk xrl bop bcl bin bsk bme bli bou xnf xfm xfl xfh xou xem xel : Nat → Int32}
variable {ypl ynd ymd ynh ylv ybt ydp yst yot yen : Int32} {yow yma yil ynu ynn yfa yvm yvl yvh ypu : Nat → Int32}
variable {nw : Nat → Option Nat}
theorem sx_isKeptC2 {c : Nat} {A B : Prop} (h4 : nr ≤ 4) (hc : c < 32) (f : ¬ sp_kc nr rc c → A) (g : sp_kc nr rc c → B) :
    ∀ fuel i, i ≤ nr → nr - i < fuel → (∀ r, r < i → ¬ bt (rc r) c = true) → wX_isKept_2 (fun r => (r = 0 → A) ∧ (¬ r = 0 → B)) (nI c) (-1) (nI nc) (nI nm) (nI nr) xnd xmd xnh xlv xq xs xbt xft xdp xst xss xpt xtr xsm fc (oF pa) xfs ups (nF hm) (nF na) br (nF ln) (nF op) ic ii xdc xfd (nF rk) rc rn xqu xwt xsi xtg xnw xfa xsg xnn xtk xrl bop bcl bin bsk bme bli bou xnf xfm xfl xfh xou xem xel fuel (nI i) := by
  intro fuel
  induction fuel with
  | zero => intro i _ h; omega
  | succ fu ih =>
    intro i hi hf hd
    rw [wX_isKept_2]
    refine pk_le nr i (fun h => br_t rfl (f ?_)) (fun h => br_f (by decide) ⟨vp_in_nI (by omega) (by decide), ?_⟩)
    · rintro ⟨r, r1, r2⟩
      exact hd r (by omega) r2
    · rw [nI_clamp (n := i) (by omega)]
      exact xh_b hc (fun hb => nm_r (nI_1 i) (ih (i + 1) (by omega) (by omega) (lt_s hd (by rw [hb]; decide)))) (fun hb => br_f (by decide) (g ⟨i, h, hb⟩))
theorem sx_isKeptC {c : Nat} {A B : Prop} (h4 : nr ≤ 4) (hc : c < 32) (f : ¬ sp_kc nr rc c → A) (g : sp_kc nr rc c → B) : wpX_isKept (fun r => (r = 0 → A) ∧ (¬ r = 0 → B)) ((nI nc), (nI nm), (nI nr), xnd, xmd, xnh, xlv, xq, xs, xbt, xft, xdp, xst, xss, xpt, xtr, xsm, fc, (oF pa), xfs, ups, (nF hm), (nF na), br, (nF ln), (nF op), ic, ii, xdc, xfd, (nF rk), rc, rn, xqu, xwt, xsi, xtg, xnw, xfa, xsg, xnn, xtk, xrl, bop, bcl, bin, bsk, bme, bli, bou, xnf, xfm, xfl, xfh, xou, xem, xel) (nI c) (-1) :=
  ⟨nr + 1, sx_isKeptC2 h4 hc f g (nr + 1) 0 (by omega) (by omega) (fun r hr => by omega)⟩
theorem sx_number97 {post : SX → Prop} {J64 : Int32 → Int32 → (Nat → Int32) → (Nat → Int32) → (Nat → Int32) → (Nat → Int32) → (Nat → Int32) → (Nat → Int32) → (Nat → Int32) → (Nat → Int32) → (Nat → Int32) → (Nat → Int32) → (Nat → Int32) → (Nat → Int32) → (Nat → Int32) → (Nat → Int32) → (Nat → Int32) → (Nat → Int32) → (Nat → Int32) → (Nat → Int32) → (Nat → Int32) → (Nat → Int32) → (Nat → Int32) → (Nat → Int32) → (Nat → Int32) → (Nat → Int32) → (Nat → Int32) → (Nat → Int32) → (Nat → Int32) → (Nat → Int32) → (Nat → Int32) → (Nat → Int32) → (Nat → Int32) → (Nat → Int32) → (Nat → Int32) → (Nat → Int32) → (Nat → Int32) → (Nat → Int32) → (Nat → Int32) → (Nat → Int32) → (Nat → Int32) → (Nat → Int32) → Prop} {c k : Nat} {x1 : Int32} (hc : c < 10) (hk : k < 32) (h1 : bt x1 k = false) (h2 : ∀ j, j < k → bt x1 j = true)
    (K : J64 (x1 ||| ((1 : Int32) <<< (nI k &&& 31))) (nI (c + 1)) fc (oF pa) xfs ups (nF hm) (nF na) br (nF ln) (nF op) ic ii xdc xfd (nF rk) rc rn xqu xwt xsi xtg (upd xnw c (nI k)) xfa xsg xnn xtk xrl bop bcl bin bsk bme bli bou xnf xfm xfl xfh xou xem xel) :
    ∀ fuel j, j ≤ k → k - j < fuel → wX_number_97 post J64 x1 (nI c) (nI nc) (nI nm) (nI nr) xnd xmd xnh xlv xq xs xbt xft xdp xst xss xpt xtr xsm fc (oF pa) xfs ups (nF hm) (nF na) br (nF ln) (nF op) ic ii xdc xfd (nF rk) rc rn xqu xwt xsi xtg xnw xfa xsg xnn xtk xrl bop bcl bin bsk bme bli bou xnf xfm xfl xfh xou xem xel fuel (nI j) := by
  intro fuel
  induction fuel with
  | zero => intro j _ h; omega
  | succ fu ih =>
    intro j hj hf
    rw [wX_number_97]
    by_cases z : j = k
    · subst z
      rw [nI_clamp (n := c) (by omega), sd_vbb (by omega)]
      exact xh_b hk (fun _ => ⟨vp_in_nI hc (by decide), nm_e (nm_e (nm_r (nI_1 c) K))⟩) (fun hb => by rw [h1] at hb; cases hb)
    · have hb := h2 j (by omega)
      exact xh_b (by omega) (fun hb' => by rw [hb] at hb'; cases hb') (fun _ => nm_r (nI_1 j) (ih (j + 1) (by omega) (by omega)))
theorem sx_number64 {post : SX → Prop} (h10 : nc ≤ 10) (H : sp_num nc nr rc xnd nw)
    (K : ∀ xnw : Nat → Int32, (∀ c, c < nc → xnw c = oI (nw c)) → post ((nI nc), (nI nm), (nI nr), xnd, xmd, xnh, xlv, xq, xs, xbt, xft, xdp, xst, xss, xpt, xtr, xsm, fc, (oF pa), xfs, ups, (nF hm), (nF na), br, (nF ln), (nF op), ic, ii, xdc, xfd, (nF rk), rc, rn, xqu, xwt, xsi, xtg, xnw, xfa, xsg, xnn, xtk, xrl, bop, bcl, bin, bsk, bme, bli, bou, xnf, xfm, xfl, xfh, xou, xem, xel)) :
    ∀ fuel i (x1 : Int32) (xnw : Nat → Int32), i ≤ nc → nc - i < fuel → (∀ c, c < i → xnw c = oI (nw c)) → (∀ c, i ≤ c → c < nc → (bt xnd c = true → sp_kc nr rc c → xnw c = nI c) ∧ (¬ (bt xnd c = true ∧ sp_kc nr rc c) → xnw c = -1)) →
      (∀ j, j < 32 → (bt x1 j = true ↔ sp_us nc nr rc xnd nw i j)) → wX_number_64 post (nI nc) (nI nm) (nI nr) xnd xmd xnh xlv xq xs xbt xft xdp xst xss xpt xtr xsm fuel x1 (nI i) fc (oF pa) xfs ups (nF hm) (nF na) br (nF ln) (nF op) ic ii xdc xfd (nF rk) rc rn xqu xwt xsi xtg xnw xfa xsg xnn xtk xrl bop bcl bin bsk bme bli bou xnf xfm xfl xfh xou xem xel := by
  intro fuel
  induction fuel with
  | zero => intro i _ _ _ h; omega
  | succ fu ih =>
    intro i x1 xnw hi hf h1 h2 h3
    rw [wX_number_64]
    refine pk_le nc i (fun h => K xnw (fun c hc => h1 c (by omega))) (fun h => ?_)
    obtain ⟨a1, a2, a3⟩ := H i h
    obtain ⟨b1, b2⟩ := h2 i (Nat.le_refl _) h
    have hskip : xnw i = oI (nw i) → (¬ bt xnd i = true ∨ sp_kc nr rc i) → ∀ y, y = nI i + 1 → wX_number_64 post (nI nc) (nI nm) (nI nr) xnd xmd xnh xlv xq xs xbt xft xdp xst xss xpt xtr xsm fu x1 y fc (oF pa) xfs ups (nF hm) (nF na) br (nF ln) (nF op) ic ii xdc xfd (nF rk) rc rn xqu xwt xsi xtg xnw xfa xsg xnn xtk xrl bop bcl bin bsk bme bli bou xnf xfm xfl xfh xou xem xel := fun e hh =>
      nm_r (nI_1 i) (ih (i + 1) x1 xnw (by omega) (by omega) (lt_s h1 e) (fun c hc1 hc2 => h2 c (by omega) hc2) (fun j hj => (h3 j hj).trans (sp_usN hh).symm))
    rw [nI_clamp (n := i) (by omega)]
    refine xh_b (by omega) (fun hb => hskip ?_ (Or.inl (by rw [hb]; decide))) (fun hb => ⟨vp_in_nI (by omega) (by decide), ?_⟩)
    · rw [a1 (by rw [hb]; decide)]
      exact b2 (fun z => by rw [z.1] at hb; cases hb)
    · by_cases kc : sp_kc nr rc i
      · rw [b1 hb kc]
        exact br_f (nI_pos (by omega)) (hskip (by rw [b1 hb kc, a2 hb kc]; rfl) (Or.inr kc))
      · rw [b2 (fun z => kc z.2)]
        obtain ⟨k, k1, k2, k3⟩ := a3 hb kc
        have hk := sp_numB h10 nc (Nat.le_refl _) H i k h k1
        refine br_t (by decide) ⟨k + 1, ?_⟩
        rw [← nI_0]
        refine sx_number97 (by omega) (by omega) (b_nf (fun z => k2 ((h3 k (by omega)).mp z))) (fun j hj => (h3 j (by omega)).mpr (k3 j hj)) (ih (i + 1) _ _ (by omega) (by omega) (fun c hc => ?_) (fun c hc1 hc2 => ?_) (fun j hj => ?_)) (k + 1) 0 (by omega) (by omega)
        · by_cases z : c = i
          · rw [z, pk_us, k1]; rfl
          · rw [pk_un z]; exact h1 c (by omega)
        · rw [pk_un (by omega)]; exact h2 c (by omega) hc2
        · rw [b_or1 (by omega), Bool.or_eq_true, h3 j hj, sp_usS hb kc k1]
          simp
theorem sx_number4 {post : SX → Prop} (h10 : nc ≤ 10) (h4 : nr ≤ 4) (H : sp_num nc nr rc xnd nw)
    (K : ∀ xnw : Nat → Int32, (∀ c, c < nc → xnw c = oI (nw c)) → post ((nI nc), (nI nm), (nI nr), xnd, xmd, xnh, xlv, xq, xs, xbt, xft, xdp, xst, xss, xpt, xtr, xsm, fc, (oF pa), xfs, ups, (nF hm), (nF na), br, (nF ln), (nF op), ic, ii, xdc, xfd, (nF rk), rc, rn, xqu, xwt, xsi, xtg, xnw, xfa, xsg, xnn, xtk, xrl, bop, bcl, bin, bsk, bme, bli, bou, xnf, xfm, xfl, xfh, xou, xem, xel)) :
    ∀ fuel i (x1 : Int32) (xnw : Nat → Int32), i ≤ nc → nc - i < fuel → (∀ c, c < i → (bt xnd c = true → sp_kc nr rc c → xnw c = nI c) ∧ (¬ (bt xnd c = true ∧ sp_kc nr rc c) → xnw c = -1)) →
      (∀ j, j < 32 → (bt x1 j = true ↔ j < i ∧ bt xnd j = true ∧ sp_kc nr rc j)) → wX_number_4 post (nI nc) (nI nm) (nI nr) xnd xmd xnh xlv xq xs xbt xft xdp xst xss xpt xtr xsm fuel x1 (nI i) fc (oF pa) xfs ups (nF hm) (nF na) br (nF ln) (nF op) ic ii xdc xfd (nF rk) rc rn xqu xwt xsi xtg xnw xfa xsg xnn xtk xrl bop bcl bin bsk bme bli bou xnf xfm xfl xfh xou xem xel := by
  intro fuel
  induction fuel with
  | zero => intro i _ _ _ h; omega
  | succ fu ih =>
    intro i x1 xnw hi hf h2 h3
    rw [wX_number_4]
    refine pk_le nc i (fun h => ⟨nc + 1, ?_⟩) (fun h => ⟨vp_in_nI (by omega) (by decide), ?_⟩)
    · rw [← nI_0]
      have e : i = nc := by omega
      rw [e] at h2 h3
      exact sx_number64 h10 H K (nc + 1) 0 x1 xnw (by omega) (by omega) (fun c hc => by omega) (fun c _ hc => h2 c hc) (fun j hj => (h3 j hj).trans sp_us0.symm)
    · have hup : ∀ (xnw' : Nat → Int32), (∀ c, c ≠ i → xnw' c = xnw c) → ((bt xnd i = true → sp_kc nr rc i → xnw' i = nI i) ∧ (¬ (bt xnd i = true ∧ sp_kc nr rc i) → xnw' i = -1)) → ∀ c, c < i + 1 → (bt xnd c = true → sp_kc nr rc c → xnw' c = nI c) ∧ (¬ (bt xnd c = true ∧ sp_kc nr rc c) → xnw' c = -1) :=
        fun xnw' e1 e2 => lt_s (fun c hc => by rw [e1 c (by omega)]; exact h2 c hc) e2
      have hbn : ¬ (bt xnd i = true ∧ sp_kc nr rc i) → ∀ j, j < 32 → (bt x1 j = true ↔ j < i + 1 ∧ bt xnd j = true ∧ sp_kc nr rc j) := fun hn j hj =>
        (h3 j hj).trans ⟨fun z => ⟨by omega, z.2⟩, fun z => ⟨by
          have : j ≠ i := fun y => hn (by rw [← y]; exact z.2)
          omega, z.2⟩⟩
      rw [nI_clamp (n := i) (by omega), sd_vbm]
      refine nm_e (xh_b (by omega) (fun hb => nm_r (nI_1 i) (ih (i + 1) x1 _ (by omega) (by omega) (hup _ (fun c hc => pk_un hc) ⟨fun z => (by rw [z] at hb; cases hb), fun _ => pk_us⟩) (hbn (fun z => by rw [z.1] at hb; cases hb)))) (fun hb => sx_isKeptC h4 (by omega) (fun hk => nm_r (nI_1 i) (ih (i + 1) x1 _ (by omega) (by omega) (hup _ (fun c hc => pk_un hc) ⟨fun _ z => absurd z hk, fun _ => pk_us⟩) (hbn (fun z => hk z.2)))) (fun hk => ⟨vp_in_nI (by omega) (by decide), ?_⟩)))
      rw [sd_vbb (by omega)]
      refine nm_e (nm_e (nm_r (nI_1 i) (ih (i + 1) _ _ (by omega) (by omega) (hup _ (fun c hc => by rw [pk_un hc, pk_un hc]) ⟨fun _ _ => pk_us, fun z => absurd ⟨hb, hk⟩ z⟩) (fun j hj => ?_))))
      rw [b_or1 (by omega), Bool.or_eq_true, h3 j hj]
      constructor
      · rintro (⟨z1, z2⟩ | z)
        · exact ⟨by omega, z2⟩
        · have : j = i := by simpa using z
          rw [this]; exact ⟨by omega, hb, hk⟩
      · rintro ⟨z1, z2⟩
        by_cases y : j = i
        · exact Or.inr (by simpa using y)
        · exact Or.inl ⟨by omega, z2⟩
theorem sx_number {post : SX → Prop} (h10 : nc ≤ 10) (h4 : nr ≤ 4) (H : sp_num nc nr rc xnd nw)
    (K : ∀ xnw : Nat → Int32, (∀ c, c < nc → xnw c = oI (nw c)) → post ((nI nc), (nI nm), (nI nr), xnd, xmd, xnh, xlv, xq, xs, xbt, xft, xdp, xst, xss, xpt, xtr, xsm, fc, (oF pa), xfs, ups, (nF hm), (nF na), br, (nF ln), (nF op), ic, ii, xdc, xfd, (nF rk), rc, rn, xqu, xwt, xsi, xtg, xnw, xfa, xsg, xnn, xtk, xrl, bop, bcl, bin, bsk, bme, bli, bou, xnf, xfm, xfl, xfh, xou, xem, xel)) : wpX_number post ((nI nc), (nI nm), (nI nr), xnd, xmd, xnh, xlv, xq, xs, xbt, xft, xdp, xst, xss, xpt, xtr, xsm, fc, (oF pa), xfs, ups, (nF hm), (nF na), br, (nF ln), (nF op), ic, ii, xdc, xfd, (nF rk), rc, rn, xqu, xwt, xsi, xtg, xnw, xfa, xsg, xnn, xtk, xrl, bop, bcl, bin, bsk, bme, bli, bou, xnf, xfm, xfl, xfh, xou, xem, xel) :=
  ⟨nc + 1, sx_number4 h10 h4 H K (nc + 1) 0 0 xnw (by omega) (by omega) (fun c hc => by omega) (fun j _ => ⟨fun z => (by rw [b_0] at z; cases z), fun z => by omega⟩)⟩
theorem sy_renumber70 {post : SY → Prop} {J15 : Int32 → Int32 → (Nat → Int32) → (Nat → Int32) → (Nat → Int32) → (Nat → Int32) → (Nat → Int32) → (Nat → Int32) → (Nat → Int32) → (Nat → Int32) → (Nat → Int32) → (Nat → Int32) → (Nat → Int32) → (Nat → Int32) → (Nat → Int32) → (Nat → Int32) → (Nat → Int32) → (Nat → Int32) → (Nat → Int32) → (Nat → Int32) → (Nat → Int32) → (Nat → Int32) → (Nat → Int32) → (Nat → Int32) → (Nat → Int32) → Prop} {c k : Nat} {x1 x2 : Int32} (hc : c < 10) (hk : k < 32) (h1 : bt x2 k = false) (h2 : ∀ j, j < k → bt x2 j = true)
    (K : J15 (x2 ||| ((1 : Int32) <<< (nI k &&& 31))) (nI (c + 1)) fc br (oF pa) ups yow yma (nF hm) (nF na) (nF ln) (nF op) fs sc (nF rk) rc rn yil (upd ynu c (nI k)) ynn yfa yvm yvl yvh ypu) :
    ∀ fuel j, j ≤ k → k - j < fuel → wY_renumber_70 post J15 x1 x2 (nI c) (nI nc) (nI nm) (nI nr) ypl ynd ymd ynh ylv ybt ydp yst yot yen fc br (oF pa) ups yow yma (nF hm) (nF na) (nF ln) (nF op) fs sc (nF rk) rc rn yil ynu ynn yfa yvm yvl yvh ypu fuel (nI j) := by
  intro fuel
  induction fuel with
  | zero => intro j _ h; omega
  | succ fu ih =>
    intro j hj hf
    rw [wY_renumber_70]
    by_cases z : j = k
    · subst z
      rw [nI_clamp (n := c) (by omega)]
      exact yh_b hk (fun _ => ⟨vp_in_nI hc (by decide), nm_e (nm_e (nm_r (nI_1 c) K))⟩) (fun hb => by rw [h1] at hb; cases hb)
    · have hb := h2 j (by omega)
      exact yh_b (by omega) (fun hb' => by rw [hb] at hb'; cases hb') (fun _ => nm_r (nI_1 j) (ih (j + 1) (by omega) (by omega)))
theorem sy_renumber15 {post : SY → Prop} {x1 : Int32} (h10 : nc ≤ 10) (H : sp_num nc nr rc ynd nw) (hx1 : ∀ c, bt x1 c = true ↔ c < nc ∧ bt ynd c = true ∧ sp_kc nr rc c)
    (K : ∀ ynu : Nat → Int32, (∀ c, c < nc → ynu c = oI (nw c)) → post ((nI nc), (nI nm), (nI nr), ypl, ynd, ymd, ynh, ylv, ybt, ydp, yst, yot, yen, fc, br, (oF pa), ups, yow, yma, (nF hm), (nF na), (nF ln), (nF op), fs, sc, (nF rk), rc, rn, yil, ynu, ynn, yfa, yvm, yvl, yvh, ypu)) :
    ∀ fuel i (x2 : Int32) (ynu : Nat → Int32), i ≤ nc → nc - i < fuel → (∀ c, c < i → ynu c = oI (nw c)) → (∀ j, j < 32 → (bt x2 j = true ↔ sp_us nc nr rc ynd nw i j)) → wY_renumber_15 post x1 (nI nc) (nI nm) (nI nr) ypl ynd ymd ynh ylv ybt ydp yst yot yen fuel x2 (nI i) fc br (oF pa) ups yow yma (nF hm) (nF na) (nF ln) (nF op) fs sc (nF rk) rc rn yil ynu ynn yfa yvm yvl yvh ypu := by
  intro fuel
  induction fuel with
  | zero => intro i _ _ _ h; omega
  | succ fu ih =>
    intro i x2 ynu hi hf h1 h3
    rw [wY_renumber_15]
    refine pk_le nc i (fun h => K ynu (fun c hc => h1 c (by omega))) (fun h => ?_)
    obtain ⟨a1, a2, a3⟩ := H i h
    have hup : ∀ (v : Int32), v = oI (nw i) → ∀ c, c < i + 1 → upd ynu i v c = oI (nw c) := fun v e =>
      lt_s (fun c hc => by rw [pk_un (by omega)]; exact h1 c hc) (by rw [pk_us, e])
    refine yh_b (by omega) (fun hb => ?_) (fun hb => ?_)
    · have hb' : ¬ bt ynd i = true := by rw [hb]; decide
      unfold wY_renumber_44
      rw [nI_clamp (n := i) (by omega)]
      exact ⟨vp_in_nI (by omega) (by decide), nm_e (yh_b (by omega) (fun _ => nm_r (nI_1 i) (ih (i + 1) x2 _ (by omega) (by omega) (hup _ (by rw [a1 hb']; rfl)) (fun j hj => (h3 j hj).trans (sp_usN (Or.inl hb')).symm))) (fun z => absurd z hb'))⟩
    · unfold wY_renumber_44
      rw [nI_clamp (n := i) (by omega)]
      refine ⟨vp_in_nI (by omega) (by decide), nm_e (yh_b (by omega) (fun z => by rw [hb] at z; cases z) (fun _ => yh_b (by omega) (fun hk => ?_) (fun hk => ?_)))⟩
      · have kc : ¬ sp_kc nr rc i := fun z => by rw [(hx1 i).mpr ⟨h, hb, z⟩] at hk; cases hk
        obtain ⟨k, k1, k2, k3⟩ := a3 hb kc
        have hk := sp_numB h10 nc (Nat.le_refl _) H i k h k1
        refine ⟨k + 1, ?_⟩
        rw [← nI_0]
        refine sy_renumber70 (by omega) (by omega) (b_nf (fun z => k2 ((h3 k (by omega)).mp z))) (fun j hj => (h3 j (by omega)).mpr (k3 j hj)) (ih (i + 1) _ _ (by omega) (by omega) (fun c hc => ?_) (fun j hj => ?_)) (k + 1) 0 (by omega) (by omega)
        · by_cases z : c = i
          · rw [z, pk_us, k1]; rfl
          · rw [pk_un z, pk_un z]; exact h1 c (by omega)
        · rw [b_or1 (by omega), Bool.or_eq_true, h3 j hj, sp_usS hb kc k1]
          simp
      · have kc := ((hx1 i).mp hk).2.2
        exact nm_r (nI_1 i) (ih (i + 1) x2 _ (by omega) (by omega) (hup _ (by rw [a2 hb kc]; rfl)) (fun j hj => (h3 j hj).trans (sp_usN (Or.inr kc)).symm))
theorem sy_renumber {post : SY → Prop} (h10 : nc ≤ 10) (U : sp_rul nr rk) (H : sp_num nc nr rc ynd nw)
    (K : ∀ ynu : Nat → Int32, (∀ c, c < nc → ynu c = oI (nw c)) → post ((nI nc), (nI nm), (nI nr), ypl, ynd, ymd, ynh, ylv, ybt, ydp, yst, yot, yen, fc, br, (oF pa), ups, yow, yma, (nF hm), (nF na), (nF ln), (nF op), fs, sc, (nF rk), rc, rn, yil, ynu, ynn, yfa, yvm, yvl, yvh, ypu)) : wpY_renumber post ((nI nc), (nI nm), (nI nr), ypl, ynd, ymd, ynh, ylv, ybt, ydp, yst, yot, yen, fc, br, (oF pa), ups, yow, yma, (nF hm), (nF na), (nF ln), (nF op), fs, sc, (nF rk), rc, rn, yil, ynu, ynn, yfa, yvm, yvl, yvh, ypu) := by
  unfold wpY_renumber
  dsimp only
  refine sy_ruledClasses (ks := 2) h10 U (by decide) (fun x hx => nm_e ⟨nc + 1, ?_⟩)
  rw [← nI_0]
  have hx1 : ∀ c, bt (x &&& ynd) c = true ↔ c < nc ∧ bt ynd c = true ∧ sp_kc nr rc c := by
    intro c
    rw [b_and, Bool.and_eq_true, hx c]
    constructor
    · rintro ⟨⟨c1, r, r1, r2, r3⟩, c2⟩
      exact ⟨c1, c2, r, r1, r3⟩
    · rintro ⟨c1, c2, r, r1, r3⟩
      exact ⟨⟨c1, r, r1, U.2 r r1, r3⟩, c2⟩
  exact sy_renumber15 h10 H hx1 K (nc + 1) 0 _ ynu (by omega) (by omega) (fun c hc => by omega) (fun j _ => (hx1 j).trans sp_us0.symm)
end
end
section
/-! families of methods -/
def sf_E (nc nm : Nat) (ups : Nat → Int32) (hm na : Nat → Nat) (nd st : Int32) (a b : Nat) : Prop :=
  a < nm ∧ b < nm ∧ bt st a = true ∧ bt st b = true ∧ na a = na b ∧ ∃ d, d < nc ∧ bt nd d = true ∧ bt (ups d) (hm a) = true ∧ bt (ups d) (hm b) = true
def sf_inv (nc nm : Nat) (ups : Nat → Int32) (hm na : Nat → Nat) (nd st : Int32) (g : Nat → Nat) : Prop := ∀ a b, sf_E nc nm ups hm na nd st a b → g a = g b
def sf_con (nc nm : Nat) (ups : Nat → Int32) (hm na : Nat → Nat) (nd st : Int32) (R : Nat → Nat) : Prop := ∀ m, m < nm → ∀ g, sf_inv nc nm ups hm na nd st g → g (R m) = g m
def sf_R (nc nm : Nat) (ups : Nat → Int32) (hm na : Nat → Nat) (nd st : Int32) (R : Nat → Nat) : Prop :=
  sf_inv nc nm ups hm na nd st R ∧ (∀ m, m < nm → R m ≤ m) ∧ sf_con nc nm ups hm na nd st R
/-- a forest and its roots -/
def sf_RF (nm : Nat) (fa : Nat → Int32) (R : Nat → Nat) : Prop := ∀ m, m < nm → (fa m = nI m ∧ R m = m) ∨ ∃ p, p < m ∧ fa m = nI p ∧ R m = R p
def sf_SG (nc nm : Nat) (ups : Nat → Int32) (hm : Nat → Nat) (nd st : Int32) (R : Nat → Nat) (r e : Nat) : Prop :=
  e < nc ∧ bt nd e = true ∧ ∃ m, m < nm ∧ bt st m = true ∧ R m = r ∧ bt (ups e) (hm m) = true
section
variable {nc nm : Nat} {ups : Nat → Int32} {hm na : Nat → Nat} {nd st : Int32} {R R' : Nat → Nat} {fa : Nat → Int32}
theorem sf_idem (H : sf_R nc nm ups hm na nd st R) {m : Nat} (hm' : m < nm) : R (R m) = R m := H.2.2 m hm' R H.1
theorem sf_name (H : sf_con nc nm ups hm na nd st R) {m : Nat} (hm' : m < nm) : na (R m) = na m := H m hm' na (fun _ _ h => h.2.2.2.2.1)
theorem sf_st (H : sf_con nc nm ups hm na nd st R) {m : Nat} (hm' : m < nm) (h : bt st m = true) : bt st (R m) = true := by
  have := H m hm' (fun x => (bt st x).toNat) (fun a b h => by show (bt st a).toNat = (bt st b).toNat; rw [h.2.2.1, h.2.2.2.1])
  rw [h] at this
  cases e : bt st (R m)
  · rw [e] at this; cases this
  · rfl
theorem sf_uniq (H : sf_R nc nm ups hm na nd st R) (H' : sf_R nc nm ups hm na nd st R') {m : Nat} (hm' : m < nm) : R m = R' m := by
  have h1 := H.2.2 m hm' R' H'.1
  have h2 := H'.2.2 m hm' R H.1
  have h3 := H.2.1 m hm'
  have h4 := H'.2.1 m hm'
  have h5 := H.2.1 (R' m) (by omega)
  have h6 := H'.2.1 (R m) (by omega)
  omega
theorem sf_le (F : sf_RF nm fa R) : ∀ m, m < nm → R m ≤ m ∧ fa (R m) = nI (R m) ∧ R (R m) = R m := by
  intro m
  induction m using Nat.strongRecOn with
  | ind m ih =>
    intro hm'
    rcases F m hm' with ⟨a, b⟩ | ⟨p, p1, p2, p3⟩
    · rw [b, b]; exact ⟨Nat.le_refl _, a, rfl⟩
    · obtain ⟨q1, q2, q3⟩ := ih p p1 (by omega)
      rw [p3]
      exact ⟨by omega, q2, q3⟩
/-- two roots become one -/
theorem sf_unite (F : sf_RF nm fa R) {lo hi : Nat} (hhi : hi < nm) (e1 : R lo = lo) (e2 : R hi = hi) (h : lo ≤ hi) : sf_RF nm (upd fa hi (nI lo)) (fun x => if R x = hi then lo else R x) := by
  intro m hm'
  by_cases z : m = hi
  · subst z
    rw [pk_us]
    by_cases y : lo = m
    · refine Or.inl ⟨by rw [y], ?_⟩
      show (if R m = m then lo else R m) = m
      rw [if_pos e2, y]
    · refine Or.inr ⟨lo, by omega, rfl, ?_⟩
      show (if R m = m then lo else R m) = (if R lo = m then lo else R lo)
      rw [if_pos e2, e1, if_neg y]
  · rw [pk_un z]
    rcases F m hm' with ⟨a, b⟩ | ⟨p, p1, p2, p3⟩
    · refine Or.inl ⟨a, ?_⟩
      show (if R m = hi then lo else R m) = m
      rw [b, if_neg z]
    · refine Or.inr ⟨p, p1, p2, ?_⟩
      show (if R m = hi then lo else R m) = (if R p = hi then lo else R p)
      rw [p3]
theorem sf_uniteC (F : sf_RF nm fa R) (H : sf_con nc nm ups hm na nd st R) {a b lo hi : Nat} (hE : sf_E nc nm ups hm na nd st a b) (h : R a = lo ∧ R b = hi ∨ R a = hi ∧ R b = lo) : sf_con nc nm ups hm na nd st (fun x => if R x = hi then lo else R x) := by
  intro m hm' g hg
  have hab := hg a b hE
  have ha := H a hE.1 g hg
  have hb := H b hE.2.1 g hg
  have hm2 := H m hm' g hg
  show g (if R m = hi then lo else R m) = g m
  by_cases z : R m = hi
  · rw [if_pos z]
    rw [z] at hm2
    rcases h with ⟨h1, h2⟩ | ⟨h1, h2⟩
    · rw [h1] at ha; rw [h2] at hb; rw [ha, hab, ← hb, hm2]
    · rw [h1] at ha; rw [h2] at hb; rw [hb, ← hab, ← ha, hm2]
  · rw [if_neg z]; exact hm2
end
end
section
/-! families of methods: the component -/
section
variable {nc nm nr : Nat} {pa : Nat → Option Nat} {hm na ln op rk cl nn : Nat → Nat} {fc ups br ic ii fs sc rc rn : Nat → Int32} {dc fd : Nat → Nat → Option Nat}
variable {xnd xmd xnh xlv xq xs xbt xft xdp xst xss xpt xtr xsm : Int32} {xfs xdc xfd xqu xwt xsi xtg xnw xfa xsg xnn xtk xrl bop bcl bin bsk bme bli bou xnf xfm xfl xfh xou xem xel : Nat → Int32}
variable {ypl ynd ymd ynh ylv ybt ydp yst yot yen : Int32} {yow yma yil ynu ynn yfa yvm yvl yvh ypu : Nat → Int32}
variable {R : Nat → Nat}
theorem sx_stands {m : Nat} {A B : Prop} (hm' : m < 32) (f : ¬ bt (xlv ||| xnh) m = true → A) (g : bt (xlv ||| xnh) m = true → B) : wpX_stands (fun r => (r = 0 → A) ∧ (¬ r = 0 → B)) ((nI nc), (nI nm), (nI nr), xnd, xmd, xnh, xlv, xq, xs, xbt, xft, xdp, xst, xss, xpt, xtr, xsm, fc, (oF pa), xfs, ups, (nF hm), (nF na), br, (nF ln), (nF op), ic, ii, xdc, xfd, (nF rk), rc, rn, xqu, xwt, xsi, xtg, xnw, xfa, xsg, xnn, xtk, xrl, bop, bcl, bin, bsk, bme, bli, bou, xnf, xfm, xfl, xfh, xou, xem, xel) (nI m) := by
  unfold wpX_stands
  dsimp only
  exact xh_c hm' (fun h => ⟨narrow_b1, br_f (by decide) (g h)⟩) (fun h => ⟨narrow_b0, br_t rfl (f (by rw [h]; decide))⟩)
theorem sx_rootOf2 {post : Int32 → Prop} (h30 : nm ≤ 30) (F : sf_RF nm xfa R) : ∀ fuel m, m < fuel → m < nm → post (nI (R m)) → wX_rootOf_2 post (nI nc) (nI nm) (nI nr) xnd xmd xnh xlv xq xs xbt xft xdp xst xss xpt xtr xsm fc (oF pa) xfs ups (nF hm) (nF na) br (nF ln) (nF op) ic ii xdc xfd (nF rk) rc rn xqu xwt xsi xtg xnw xfa xsg xnn xtk xrl bop bcl bin bsk bme bli bou xnf xfm xfl xfh xou xem xel fuel (nI m) := by
  intro fuel
  induction fuel with
  | zero => intro m h; omega
  | succ fu ih =>
    intro m hf hm' hp
    rw [wX_rootOf_2]
    dsimp only
    rw [nI_clamp (n := m) (by omega)]
    have hv : vp_in (nI m) 30 := vp_in_nI (by omega) (by decide)
    refine ⟨hv, ?_⟩
    rcases F m hm' with ⟨a, b⟩ | ⟨p, p1, p2, p3⟩
    · rw [b] at hp
      exact br_t a hp
    · rw [p3] at hp
      rw [p2]
      exact br_f (fun z => by have := sd_inj (by omega) (by omega) z; omega) ⟨hv, nm_e (ih p (by omega) (by omega) hp)⟩
theorem sx_rootOf {post : Int32 → Prop} {m : Nat} (h30 : nm ≤ 30) (F : sf_RF nm xfa R) (hm' : m < nm) (hp : post (nI (R m))) : wpX_rootOf post ((nI nc), (nI nm), (nI nr), xnd, xmd, xnh, xlv, xq, xs, xbt, xft, xdp, xst, xss, xpt, xtr, xsm, fc, (oF pa), xfs, ups, (nF hm), (nF na), br, (nF ln), (nF op), ic, ii, xdc, xfd, (nF rk), rc, rn, xqu, xwt, xsi, xtg, xnw, xfa, xsg, xnn, xtk, xrl, bop, bcl, bin, bsk, bme, bli, bou, xnf, xfm, xfl, xfh, xou, xem, xel) (nI m) :=
  ⟨m + 1, sx_rootOf2 h30 F (m + 1) m (by omega) hm' hp⟩
theorem sx_unite {post : SX → Prop} {a b : Nat} (h30 : nm ≤ 30) (F : sf_RF nm xfa R) (H : sf_con nc nm ups hm na xnd (xlv ||| xnh) R) (hE : sf_E nc nm ups hm na xnd (xlv ||| xnh) a b)
    (K : ∀ (xfa : Nat → Int32) (R' : Nat → Nat), sf_RF nm xfa R' → sf_con nc nm ups hm na xnd (xlv ||| xnh) R' → (∀ x y, R x = R y → R' x = R' y) → R' a = R' b → post ((nI nc), (nI nm), (nI nr), xnd, xmd, xnh, xlv, xq, xs, xbt, xft, xdp, xst, xss, xpt, xtr, xsm, fc, (oF pa), xfs, ups, (nF hm), (nF na), br, (nF ln), (nF op), ic, ii, xdc, xfd, (nF rk), rc, rn, xqu, xwt, xsi, xtg, xnw, xfa, xsg, xnn, xtk, xrl, bop, bcl, bin, bsk, bme, bli, bou, xnf, xfm, xfl, xfh, xou, xem, xel)) : wpX_unite post ((nI nc), (nI nm), (nI nr), xnd, xmd, xnh, xlv, xq, xs, xbt, xft, xdp, xst, xss, xpt, xtr, xsm, fc, (oF pa), xfs, ups, (nF hm), (nF na), br, (nF ln), (nF op), ic, ii, xdc, xfd, (nF rk), rc, rn, xqu, xwt, xsi, xtg, xnw, xfa, xsg, xnn, xtk, xrl, bop, bcl, bin, bsk, bme, bli, bou, xnf, xfm, xfl, xfh, xou, xem, xel) (nI a) (nI b) := by
  obtain ⟨a1, a2, a3⟩ := sf_le F a hE.1
  obtain ⟨b1, b2, b3⟩ := sf_le F b hE.2.1
  have ha := hE.1
  have hb := hE.2.1
  unfold wpX_unite
  dsimp only
  refine sx_rootOf h30 F ha (sx_rootOf h30 F hb ?_)
  refine pk_le (R b) (R a) (fun h => ⟨vp_in_nI (by omega) (by decide), nm_e ?_⟩) (fun h => ⟨vp_in_nI (by omega) (by decide), nm_e ?_⟩)
  · rw [nI_clamp (n := R a) (by omega), sd_vbb (by omega)]
    refine K _ _ (sf_unite F (by omega) b3 a3 h) (sf_uniteC F H hE (Or.inr ⟨rfl, rfl⟩)) (fun x y e => ?_) ?_
    · show (if R x = R a then R b else R x) = (if R y = R a then R b else R y)
      rw [e]
    · show (if R a = R a then R b else R a) = (if R b = R a then R b else R b)
      rw [if_pos rfl]; split <;> rfl
  · rw [nI_clamp (n := R b) (by omega), sd_vbb (by omega)]
    refine K _ _ (sf_unite F (by omega) a3 b3 (by omega)) (sf_uniteC F H hE (Or.inl ⟨rfl, rfl⟩)) (fun x y e => ?_) ?_
    · show (if R x = R b then R a else R x) = (if R y = R b then R a else R y)
      rw [e]
    · show (if R a = R b then R a else R a) = (if R b = R b then R a else R b)
      rw [if_pos rfl]; split <;> rfl
/-- what class e sees of name n -/
def sf_SN (nm : Nat) (ups : Nat → Int32) (hm na : Nat → Nat) (st : Int32) (e n m : Nat) : Prop := m < nm ∧ bt st m = true ∧ na m = n ∧ bt (ups e) (hm m) = true
theorem sx_together5 {post : SX → Prop} {e n : Nat} (C : sp_cls nc fc pa ups) (M : sp_mth nc nm fc hm na ln br dc) (he : e < nc) (hn : n < 10) (hnd : bt xnd e = true) {R0 : Nat → Nat}
    (K : ∀ (xfa : Nat → Int32) (R : Nat → Nat), sf_RF nm xfa R → sf_con nc nm ups hm na xnd (xlv ||| xnh) R → (∀ x y, R0 x = R0 y → R x = R y) → (∀ a b, sf_SN nm ups hm na (xlv ||| xnh) e n a → sf_SN nm ups hm na (xlv ||| xnh) e n b → R a = R b) → post ((nI nc), (nI nm), (nI nr), xnd, xmd, xnh, xlv, xq, xs, xbt, xft, xdp, xst, xss, xpt, xtr, xsm, fc, (oF pa), xfs, ups, (nF hm), (nF na), br, (nF ln), (nF op), ic, ii, xdc, xfd, (nF rk), rc, rn, xqu, xwt, xsi, xtg, xnw, xfa, xsg, xnn, xtk, xrl, bop, bcl, bin, bsk, bme, bli, bou, xnf, xfm, xfl, xfh, xou, xem, xel)) :
    ∀ fuel i (o : Option Nat) (xfa : Nat → Int32) (R : Nat → Nat), i ≤ nm → nm - i < fuel → sf_RF nm xfa R → sf_con nc nm ups hm na xnd (xlv ||| xnh) R → (∀ x y, R0 x = R0 y → R x = R y) →
      (o = none ∧ (∀ m, m < i → ¬ sf_SN nm ups hm na (xlv ||| xnh) e n m) ∨ ∃ f, o = some f ∧ sf_SN nm ups hm na (xlv ||| xnh) e n f ∧ ∀ m, m < i → sf_SN nm ups hm na (xlv ||| xnh) e n m → R m = R f) → wX_together_5 post (nI e) (nI n) fuel (oI o) (nI i) (nI nc) (nI nm) (nI nr) xnd xmd xnh xlv xq xs xbt xft xdp xst xss xpt xtr xsm fc (oF pa) xfs ups (nF hm) (nF na) br (nF ln) (nF op) ic ii xdc xfd (nF rk) rc rn xqu xwt xsi xtg xnw xfa xsg xnn xtk xrl bop bcl bin bsk bme bli bou xnf xfm xfl xfh xou xem xel := by
  intro fuel
  induction fuel with
  | zero => intro i _ _ _ _ h; omega
  | succ fu ih =>
    intro i o xfa R hi hf F H L I
    have h10 := C.1
    have h30 := M.1
    rw [wX_together_5]
    refine pk_le nm i (fun h => K xfa R F H L (fun a b ha hb => ?_)) (fun h => ?_)
    · rcases I with ⟨_, z⟩ | ⟨f, _, _, z⟩
      · exact absurd ha (z a (by have := ha.1; omega))
      · rw [z a (by have := ha.1; omega) ha, z b (by have := hb.1; omega) hb]
    · obtain ⟨m1, m2, _⟩ := M.2.1 i h
      have hskip : ¬ sf_SN nm ups hm na (xlv ||| xnh) e n i → ∀ y, y = nI i + 1 → wX_together_5 post (nI e) (nI n) fu (oI o) y (nI nc) (nI nm) (nI nr) xnd xmd xnh xlv xq xs xbt xft xdp xst xss xpt xtr xsm fc (oF pa) xfs ups (nF hm) (nF na) br (nF ln) (nF op) ic ii xdc xfd (nF rk) rc rn xqu xwt xsi xtg xnw xfa xsg xnn xtk xrl bop bcl bin bsk bme bli bou xnf xfm xfl xfh xou xem xel := fun hne =>
        nm_r (nI_1 i) (ih (i + 1) o xfa R (by omega) (by omega) F H L (I.imp (fun z => ⟨z.1, lt_s z.2 hne⟩) (fun ⟨f, f1, f2, f3⟩ => ⟨f, f1, f2, lt_s f3 (fun z => absurd z hne)⟩)))
      have hvi : vp_in (nI i) 30 := vp_in_nI (by omega) (by decide)
      rw [nI_clamp (n := i) (by omega), nF_a, nF_a, nI_clamp (n := e) (by omega)]
      refine ⟨hvi, pk_eq (na i) n (fun en => sx_stands (by omega) (fun hs => hskip (fun z => hs z.2.1)) (fun hs => ⟨vp_in_nI (by omega) (by decide), hvi, xh_b (by omega) (fun hb => hskip (fun z => by rw [z.2.2.2] at hb; cases hb)) (fun hb => ?_)⟩)) (fun en => hskip (fun z => en z.2.2.1))⟩
      have hSN : sf_SN nm ups hm na (xlv ||| xnh) e n i := ⟨h, hs, en, hb⟩
      rcases I with ⟨o1, z⟩ | ⟨f, o1, f2, f3⟩
      · rw [o1]
        refine br_f (by decide) (nm_r (nI_1 i) (ih (i + 1) (some i) xfa R (by omega) (by omega) F H L (Or.inr ⟨i, rfl, hSN, lt_s (fun m hm' y => absurd y (z m hm')) (fun _ => rfl)⟩)))
      · rw [o1, oI_s]
        have hfm := f2.1
        refine br_t (nI_pos' (by omega)) (sx_unite h30 F H ⟨f2.1, h, f2.2.1, hs, f2.2.2.1.trans en.symm, e, he, hnd, f2.2.2.2, hb⟩ (fun xfa' R' F' H' L' e' => nm_r (nI_1 i) ?_))
        have := ih (i + 1) (some f) xfa' R' (by omega) (by omega) F' H' (fun x y w => L' _ _ (L x y w)) (Or.inr ⟨f, rfl, f2, lt_s (fun m hm' y => L' _ _ (f3 m hm' y)) (fun _ => e'.symm)⟩)
        exact this
theorem sx_together {post : SX → Prop} {e n : Nat} (C : sp_cls nc fc pa ups) (M : sp_mth nc nm fc hm na ln br dc) (he : e < nc) (hn : n < 10) (hnd : bt xnd e = true) (F : sf_RF nm xfa R) (H : sf_con nc nm ups hm na xnd (xlv ||| xnh) R)
    (K : ∀ (xfa : Nat → Int32) (R' : Nat → Nat), sf_RF nm xfa R' → sf_con nc nm ups hm na xnd (xlv ||| xnh) R' → (∀ x y, R x = R y → R' x = R' y) → (∀ a b, sf_SN nm ups hm na (xlv ||| xnh) e n a → sf_SN nm ups hm na (xlv ||| xnh) e n b → R' a = R' b) → post ((nI nc), (nI nm), (nI nr), xnd, xmd, xnh, xlv, xq, xs, xbt, xft, xdp, xst, xss, xpt, xtr, xsm, fc, (oF pa), xfs, ups, (nF hm), (nF na), br, (nF ln), (nF op), ic, ii, xdc, xfd, (nF rk), rc, rn, xqu, xwt, xsi, xtg, xnw, xfa, xsg, xnn, xtk, xrl, bop, bcl, bin, bsk, bme, bli, bou, xnf, xfm, xfl, xfh, xou, xem, xel)) : wpX_together post ((nI nc), (nI nm), (nI nr), xnd, xmd, xnh, xlv, xq, xs, xbt, xft, xdp, xst, xss, xpt, xtr, xsm, fc, (oF pa), xfs, ups, (nF hm), (nF na), br, (nF ln), (nF op), ic, ii, xdc, xfd, (nF rk), rc, rn, xqu, xwt, xsi, xtg, xnw, xfa, xsg, xnn, xtk, xrl, bop, bcl, bin, bsk, bme, bli, bou, xnf, xfm, xfl, xfh, xou, xem, xel) (nI e) (nI n) :=
  ⟨nm + 1, sx_together5 C M he hn hnd K (nm + 1) 0 none xfa R (by omega) (by omega) F H (fun _ _ z => z) (Or.inl ⟨rfl, fun m h => by omega⟩)⟩
theorem sx_relate105 {post : SX → Prop} {J78 : Int32 → (Nat → Int32) → (Nat → Int32) → (Nat → Int32) → (Nat → Int32) → (Nat → Int32) → (Nat → Int32) → (Nat → Int32) → (Nat → Int32) → (Nat → Int32) → (Nat → Int32) → (Nat → Int32) → (Nat → Int32) → (Nat → Int32) → (Nat → Int32) → (Nat → Int32) → (Nat → Int32) → (Nat → Int32) → (Nat → Int32) → (Nat → Int32) → (Nat → Int32) → (Nat → Int32) → (Nat → Int32) → (Nat → Int32) → (Nat → Int32) → (Nat → Int32) → (Nat → Int32) → (Nat → Int32) → (Nat → Int32) → (Nat → Int32) → (Nat → Int32) → (Nat → Int32) → (Nat → Int32) → (Nat → Int32) → (Nat → Int32) → (Nat → Int32) → (Nat → Int32) → (Nat → Int32) → (Nat → Int32) → (Nat → Int32) → (Nat → Int32) → Prop} {m r : Nat} (C : sp_cls nc fc pa ups) (M : sp_mth nc nm fc hm na ln br dc) (hm' : m < nm) (hr : r < nm) {sg0 : Nat → Int32}
    (K : ∀ xsg : Nat → Int32, (∀ x, x ≠ r → xsg x = sg0 x) → (∀ e, bt (xsg r) e = true ↔ bt (sg0 r) e = true ∨ e < nc ∧ bt xnd e = true ∧ bt (ups e) (hm m) = true) → J78 (nI (m + 1)) fc (oF pa) xfs ups (nF hm) (nF na) br (nF ln) (nF op) ic ii xdc xfd (nF rk) rc rn xqu xwt xsi xtg xnw xfa xsg xnn xtk xrl bop bcl bin bsk bme bli bou xnf xfm xfl xfh xou xem xel) :
    ∀ fuel j (xsg : Nat → Int32), j ≤ nc → nc - j < fuel → (∀ x, x ≠ r → xsg x = sg0 x) → (∀ e, bt (xsg r) e = true ↔ bt (sg0 r) e = true ∨ e < j ∧ bt xnd e = true ∧ bt (ups e) (hm m) = true) → wX_relate_105 post J78 (nI m) (nI r) (nI nc) (nI nm) (nI nr) xnd xmd xnh xlv xq xs xbt xft xdp xst xss xpt xtr xsm fuel (nI j) fc (oF pa) xfs ups (nF hm) (nF na) br (nF ln) (nF op) ic ii xdc xfd (nF rk) rc rn xqu xwt xsi xtg xnw xfa xsg xnn xtk xrl bop bcl bin bsk bme bli bou xnf xfm xfl xfh xou xem xel := by
  intro fuel
  induction fuel with
  | zero => intro j _ _ h; omega
  | succ fu ih =>
    intro j xsg hj hf h1 h2
    have h10 := C.1
    have h30 := M.1
    have hh := (M.2.1 m hm').1
    rw [wX_relate_105]
    refine pk_le nc j (fun h => nm_r (nI_1 m) (K xsg h1 (fun e => (h2 e).trans (or_congr Iff.rfl ⟨fun z => ⟨by omega, z.2⟩, fun z => ⟨by omega, z.2⟩⟩)))) (fun h => ?_)
    have hskip : ¬ (bt xnd j = true ∧ bt (ups j) (hm m) = true) → ∀ y, y = nI j + 1 → wX_relate_105 post J78 (nI m) (nI r) (nI nc) (nI nm) (nI nr) xnd xmd xnh xlv xq xs xbt xft xdp xst xss xpt xtr xsm fu y fc (oF pa) xfs ups (nF hm) (nF na) br (nF ln) (nF op) ic ii xdc xfd (nF rk) rc rn xqu xwt xsi xtg xnw xfa xsg xnn xtk xrl bop bcl bin bsk bme bli bou xnf xfm xfl xfh xou xem xel := fun hne =>
      nm_r (nI_1 j) (ih (j + 1) xsg (by omega) (by omega) h1 (fun e => (h2 e).trans (or_congr Iff.rfl ⟨fun z => ⟨by omega, z.2⟩, fun z => ⟨by
        have : e ≠ j := fun y => hne (by rw [← y]; exact z.2)
        omega, z.2⟩⟩)))
    have hvr : vp_in (nI r) 30 := vp_in_nI (by omega) (by decide)
    rw [nI_clamp (n := j) (by omega), nI_clamp (n := m) (by omega), nI_clamp (n := r) (by omega), nF_a]
    refine xh_b (by omega) (fun hb => hskip (fun z => by rw [z.1] at hb; cases hb)) (fun hb => ⟨vp_in_nI (by omega) (by decide), vp_in_nI (by omega) (by decide), xh_b (by omega) (fun hb2 => hskip (fun z => by rw [z.2] at hb2; cases hb2)) (fun hb2 => ⟨hvr, hvr, nm_e (nm_r (nI_1 j) (ih (j + 1) _ (by omega) (by omega) (fun x hx => by rw [pk_un hx]; exact h1 x hx) (fun e => ?_)))⟩)⟩)
    rw [pk_us, b_or1 (by omega), Bool.or_eq_true, h2 e]
    constructor
    · rintro ((z | z) | z)
      · exact Or.inl z
      · exact Or.inr ⟨by omega, z.2⟩
      · have : e = j := by simpa using z
        rw [this]; exact Or.inr ⟨by omega, hb, hb2⟩
    · rintro (z | z)
      · exact Or.inl (Or.inl z)
      · by_cases y : e = j
        · exact Or.inr (by simpa using y)
        · exact Or.inl (Or.inr ⟨by omega, z.2⟩)
theorem sx_relate78 {post : SX → Prop} (C : sp_cls nc fc pa ups) (M : sp_mth nc nm fc hm na ln br dc) (F : sf_RF nm xfa R)
    (K : ∀ xsg : Nat → Int32, (∀ r e, r < nm → (bt (xsg r) e = true ↔ sf_SG nc nm ups hm xnd (xlv ||| xnh) R r e)) → post ((nI nc), (nI nm), (nI nr), xnd, xmd, xnh, xlv, xq, xs, xbt, xft, xdp, xst, xss, xpt, xtr, xsm, fc, (oF pa), xfs, ups, (nF hm), (nF na), br, (nF ln), (nF op), ic, ii, xdc, xfd, (nF rk), rc, rn, xqu, xwt, xsi, xtg, xnw, xfa, xsg, xnn, xtk, xrl, bop, bcl, bin, bsk, bme, bli, bou, xnf, xfm, xfl, xfh, xou, xem, xel)) :
    ∀ fuel i (xsg : Nat → Int32), i ≤ nm → nm - i < fuel → (∀ r e, r < nm → (bt (xsg r) e = true ↔ e < nc ∧ bt xnd e = true ∧ ∃ m, m < i ∧ bt (xlv ||| xnh) m = true ∧ R m = r ∧ bt (ups e) (hm m) = true)) → wX_relate_78 post (nI nc) (nI nm) (nI nr) xnd xmd xnh xlv xq xs xbt xft xdp xst xss xpt xtr xsm fuel (nI i) fc (oF pa) xfs ups (nF hm) (nF na) br (nF ln) (nF op) ic ii xdc xfd (nF rk) rc rn xqu xwt xsi xtg xnw xfa xsg xnn xtk xrl bop bcl bin bsk bme bli bou xnf xfm xfl xfh xou xem xel := by
  intro fuel
  induction fuel with
  | zero => intro i _ _ h; omega
  | succ fu ih =>
    intro i xsg hi hf h1
    have h30 := M.1
    rw [wX_relate_78]
    refine pk_le nm i (fun h => K xsg (fun r e hr => ?_)) (fun h => ?_)
    · have e' : i = nm := by omega
      rw [e'] at h1
      exact h1 r e hr
    · have hRi := (sf_le F i h).1
      refine sx_stands (by omega) (fun hs => nm_r (nI_1 i) (ih (i + 1) xsg (by omega) (by omega) (fun r e hr => (h1 r e hr).trans (and_congr Iff.rfl (and_congr Iff.rfl ⟨fun ⟨m, a, b⟩ => ⟨m, by omega, b⟩, fun ⟨m, a, b, c⟩ => ⟨m, ?_, b, c⟩⟩))))) (fun hs => sx_rootOf h30 F h ⟨nc + 1, ?_⟩)
      · have : m ≠ i := fun z => hs (by rw [← z]; exact b)
        omega
      · rw [← nI_0]
        refine sx_relate105 C M h (by omega) (fun xsg' e1 e2 => ih (i + 1) xsg' (by omega) (by omega) (fun r e hr => ?_)) (nc + 1) 0 xsg (by omega) (by omega) (fun _ _ => rfl) (fun e => ⟨Or.inl, fun z => z.elim id (fun y => by omega)⟩)
        by_cases z : r = R i
        · rw [z, e2 e, h1 (R i) e (by omega)]
          constructor
          · rintro (⟨a, b, m, c, d⟩ | ⟨a, b, c⟩)
            · exact ⟨a, b, m, by omega, d⟩
            · exact ⟨a, b, i, by omega, hs, rfl, c⟩
          · rintro ⟨a, b, m, c, d1, d2, d3⟩
            by_cases y : m = i
            · rw [y] at d3; exact Or.inr ⟨a, b, d3⟩
            · exact Or.inl ⟨a, b, m, by omega, d1, d2, d3⟩
        · rw [e1 r z, h1 r e hr]
          refine and_congr Iff.rfl (and_congr Iff.rfl ⟨fun ⟨m, a, b⟩ => ⟨m, by omega, b⟩, fun ⟨m, a, b, c, d⟩ => ⟨m, ?_, b, c, d⟩⟩)
          have : m ≠ i := fun y => z (by rw [← c, y])
          omega
theorem sx_relate33 {post : SX → Prop} (C : sp_cls nc fc pa ups) (M : sp_mth nc nm fc hm na ln br dc) (hsg : ∀ r, r < nm → xsg r = 0)
    (K : ∀ (xfa xsg : Nat → Int32) (R : Nat → Nat), sf_RF nm xfa R → sf_R nc nm ups hm na xnd (xlv ||| xnh) R → (∀ r e, r < nm → (bt (xsg r) e = true ↔ sf_SG nc nm ups hm xnd (xlv ||| xnh) R r e)) → post ((nI nc), (nI nm), (nI nr), xnd, xmd, xnh, xlv, xq, xs, xbt, xft, xdp, xst, xss, xpt, xtr, xsm, fc, (oF pa), xfs, ups, (nF hm), (nF na), br, (nF ln), (nF op), ic, ii, xdc, xfd, (nF rk), rc, rn, xqu, xwt, xsi, xtg, xnw, xfa, xsg, xnn, xtk, xrl, bop, bcl, bin, bsk, bme, bli, bou, xnf, xfm, xfl, xfh, xou, xem, xel)) :
    ∀ fuel i (xfa : Nat → Int32) (R : Nat → Nat), i ≤ 10 * nc → 10 * nc - i < fuel → sf_RF nm xfa R → sf_con nc nm ups hm na xnd (xlv ||| xnh) R → (∀ e n a b, e < nc → n < 10 → 10 * e + n < i → bt xnd e = true → sf_SN nm ups hm na (xlv ||| xnh) e n a → sf_SN nm ups hm na (xlv ||| xnh) e n b → R a = R b) → wX_relate_33 post fuel (nI i) (nI nc) (nI nm) (nI nr) xnd xmd xnh xlv xq xs xbt xft xdp xst xss xpt xtr xsm fc (oF pa) xfs ups (nF hm) (nF na) br (nF ln) (nF op) ic ii xdc xfd (nF rk) rc rn xqu xwt xsi xtg xnw xfa xsg xnn xtk xrl bop bcl bin bsk bme bli bou xnf xfm xfl xfh xou xem xel := by
  intro fuel
  induction fuel with
  | zero => intro i _ _ _ h; omega
  | succ fu ih =>
    intro i xfa R hi hf F H I
    have h10 := C.1
    have h30 := M.1
    rw [wX_relate_33]
    dsimp only
    rw [sd_x10]
    refine pk_le (10 * nc) i (fun h => ⟨nm + 1, ?_⟩) (fun h => ?_)
    · have HR : sf_R nc nm ups hm na xnd (xlv ||| xnh) R := by
        refine ⟨fun a b hE => ?_, fun m hm' => (sf_le F m hm').1, H⟩
        obtain ⟨a1, a2, a3, a4, a5, d, d1, d2, d3, d4⟩ := hE
        have := (M.2.1 a a1).2.1
        exact I d (na a) a b d1 this (by omega) d2 ⟨a1, a3, rfl, d3⟩ ⟨a2, a4, a5.symm, d4⟩
      rw [← nI_0]
      refine sx_relate78 C M F (fun xsg' h' => K xfa xsg' R F HR h') (nm + 1) 0 xsg (by omega) (by omega) (fun r e hr => ?_)
      rw [hsg r hr, b_0]
      exact ⟨fun z => (by cases z), fun ⟨_, _, m, hm', _⟩ => by omega⟩
    · rw [sd_r10 (by omega), sd_d10 (by omega)]
      refine ⟨sd_100, xh_b (by omega) (fun hb => nm_r (nI_1 i) (ih (i + 1) xfa R (by omega) (by omega) F H (fun e n a b he hn hlt hnd => ?_))) (fun hb => ⟨sd_100, sd_100, sx_together C M (by omega) (by omega) hb F H (fun xfa' R' F' H' L' e' => nm_r (nI_1 i) (ih (i + 1) xfa' R' (by omega) (by omega) F' H' (fun e n a b he hn hlt hnd h1 h2 => ?_)))⟩)⟩
      · have : 10 * e + n ≠ i := fun z => by
          have : i / 10 = e := by omega
          rw [this, hnd] at hb; cases hb
        exact I e n a b he hn (by omega) hnd
      · by_cases z : 10 * e + n = i
        · have y1 : i / 10 = e := by omega
          have y2 : i % 10 = n := by omega
          rw [y1, y2] at e'
          exact e' a b h1 h2
        · exact L' _ _ (I e n a b he hn (by omega) hnd h1 h2)
theorem sx_relate2 {post : SX → Prop} (C : sp_cls nc fc pa ups) (M : sp_mth nc nm fc hm na ln br dc)
    (K : ∀ (xfa xsg : Nat → Int32) (R : Nat → Nat), sf_RF nm xfa R → sf_R nc nm ups hm na xnd (xlv ||| xnh) R → (∀ r e, r < nm → (bt (xsg r) e = true ↔ sf_SG nc nm ups hm xnd (xlv ||| xnh) R r e)) → post ((nI nc), (nI nm), (nI nr), xnd, xmd, xnh, xlv, xq, xs, xbt, xft, xdp, xst, xss, xpt, xtr, xsm, fc, (oF pa), xfs, ups, (nF hm), (nF na), br, (nF ln), (nF op), ic, ii, xdc, xfd, (nF rk), rc, rn, xqu, xwt, xsi, xtg, xnw, xfa, xsg, xnn, xtk, xrl, bop, bcl, bin, bsk, bme, bli, bou, xnf, xfm, xfl, xfh, xou, xem, xel)) :
    ∀ fuel i (xfa xsg : Nat → Int32), i ≤ nm → nm - i < fuel → (∀ r, r < i → xfa r = nI r) → (∀ r, r < i → xsg r = 0) → wX_relate_2 post (nI nc) (nI nm) (nI nr) xnd xmd xnh xlv xq xs xbt xft xdp xst xss xpt xtr xsm fuel (nI i) fc (oF pa) xfs ups (nF hm) (nF na) br (nF ln) (nF op) ic ii xdc xfd (nF rk) rc rn xqu xwt xsi xtg xnw xfa xsg xnn xtk xrl bop bcl bin bsk bme bli bou xnf xfm xfl xfh xou xem xel := by
  intro fuel
  induction fuel with
  | zero => intro i _ _ _ h; omega
  | succ fu ih =>
    intro i xfa xsg hi hf h1 h2
    have h30 := M.1
    rw [wX_relate_2]
    have hv : nm ≤ i ∨ vp_in (nI i) 30 := by
      rcases Nat.lt_or_ge i nm with z | z
      · exact Or.inr (vp_in_nI (by omega) (by decide))
      · exact Or.inl z
    refine pk_le nm i (fun h => ⟨10 * nc + 1, ?_⟩) (fun h => ⟨hv.elim (fun z => by omega) id, ?_⟩)
    · rw [← nI_0]
      exact sx_relate33 C M (fun r hr => h2 r (by omega)) K (10 * nc + 1) 0 xfa (fun x => x) (by omega) (by omega) (fun m hm' => Or.inl ⟨h1 m (by omega), rfl⟩) (fun m hm' g hg => rfl) (fun e n a b _ _ hlt => by omega)
    · rw [nI_clamp (n := i) (by omega), sd_vbb (by omega)]
      refine nm_e ⟨hv.elim (fun z => by omega) id, nm_e (nm_r (nI_1 i) (ih (i + 1) _ _ (by omega) (by omega) (fun r hr => ?_) (fun r hr => ?_)))⟩
      · by_cases z : r = i
        · rw [z, pk_us]
        · rw [pk_un z]; exact h1 r (by omega)
      · by_cases z : r = i
        · rw [z, pk_us]
        · rw [pk_un z]; exact h2 r (by omega)
theorem sx_relate {post : SX → Prop} (C : sp_cls nc fc pa ups) (M : sp_mth nc nm fc hm na ln br dc)
    (K : ∀ (xfa xsg : Nat → Int32) (R : Nat → Nat), sf_RF nm xfa R → sf_R nc nm ups hm na xnd (xlv ||| xnh) R → (∀ r e, r < nm → (bt (xsg r) e = true ↔ sf_SG nc nm ups hm xnd (xlv ||| xnh) R r e)) → post ((nI nc), (nI nm), (nI nr), xnd, xmd, xnh, xlv, xq, xs, xbt, xft, xdp, xst, xss, xpt, xtr, xsm, fc, (oF pa), xfs, ups, (nF hm), (nF na), br, (nF ln), (nF op), ic, ii, xdc, xfd, (nF rk), rc, rn, xqu, xwt, xsi, xtg, xnw, xfa, xsg, xnn, xtk, xrl, bop, bcl, bin, bsk, bme, bli, bou, xnf, xfm, xfl, xfh, xou, xem, xel)) : wpX_relate post ((nI nc), (nI nm), (nI nr), xnd, xmd, xnh, xlv, xq, xs, xbt, xft, xdp, xst, xss, xpt, xtr, xsm, fc, (oF pa), xfs, ups, (nF hm), (nF na), br, (nF ln), (nF op), ic, ii, xdc, xfd, (nF rk), rc, rn, xqu, xwt, xsi, xtg, xnw, xfa, xsg, xnn, xtk, xrl, bop, bcl, bin, bsk, bme, bli, bou, xnf, xfm, xfl, xfh, xou, xem, xel) :=
  ⟨nm + 1, sx_relate2 C M K (nm + 1) 0 xfa xsg (by omega) (by omega) (fun r h => by omega) (fun r h => by omega)⟩
end
end
section
/-! families of methods: the reference -/
theorem b_both {x : Int32} {a b : Nat} (ha : a < 32) (hb : b < 32) : (x &&& (((1 : Int32) <<< (nI a &&& 31)) ||| ((1 : Int32) <<< (nI b &&& 31)))) = (((1 : Int32) <<< (nI a &&& 31)) ||| ((1 : Int32) <<< (nI b &&& 31))) ↔ bt x a = true ∧ bt x b = true := by
  have hbit : ∀ i, bt (((1 : Int32) <<< (nI a &&& 31)) ||| ((1 : Int32) <<< (nI b &&& 31))) i = (decide (i = a) || decide (i = b)) := fun i => by rw [b_or, b_sh1 ha, b_sh1 hb]
  constructor
  · intro h
    refine ⟨?_, ?_⟩
    · have e : bt (x &&& (((1 : Int32) <<< (nI a &&& 31)) ||| ((1 : Int32) <<< (nI b &&& 31)))) a = true := by rw [h, hbit]; simp
      rw [b_and] at e
      simp at e
      exact e.1
    · have e : bt (x &&& (((1 : Int32) <<< (nI a &&& 31)) ||| ((1 : Int32) <<< (nI b &&& 31)))) b = true := by rw [h, hbit]; simp
      rw [b_and] at e
      simp at e
      exact e.1
  · rintro ⟨h1, h2⟩
    apply b_ext
    intro i _
    rw [b_and, hbit]
    by_cases z1 : i = a
    · subst z1; rw [h1]; rfl
    · by_cases z2 : i = b
      · subst z2; rw [h2]; rfl
      · simp [z1, z2]
def sf_sum (R : Nat → Nat) : Nat → Nat
  | 0 => 0
  | k + 1 => sf_sum R k + R k
theorem sf_sum_e {R R' : Nat → Nat} : ∀ {n : Nat}, (∀ x, x < n → R x = R' x) → sf_sum R n = sf_sum R' n
  | 0, _ => rfl
  | n + 1, h => by
    have := sf_sum_e (n := n) (fun x hx => h x (by omega))
    have := h n (by omega)
    simp only [sf_sum]; omega
theorem sf_sum_l {R : Nat → Nat} {b v : Nat} (hv : v < R b) : ∀ {n : Nat}, b < n → sf_sum (un R b v) n < sf_sum R n
  | 0, h => by omega
  | n + 1, h => by
    simp only [sf_sum]
    by_cases z : b = n
    · subst z
      rw [un_s, sf_sum_e (R := un R b v) (R' := R) (fun x hx => un_n (by omega))]
      omega
    · have := sf_sum_l hv (n := n) (by omega)
      rw [un_n (by omega)]
      omega
section
variable {nc nm nr : Nat} {pa : Nat → Option Nat} {hm na ln op rk cl nn : Nat → Nat} {fc ups br ic ii fs sc rc rn : Nat → Int32} {dc fd : Nat → Nat → Option Nat}
variable {xnd xmd xnh xlv xq xs xbt xft xdp xst xss xpt xtr xsm : Int32} {xfs xdc xfd xqu xwt xsi xtg xnw xfa xsg xnn xtk xrl bop bcl bin bsk bme bli bou xnf xfm xfl xfh xou xem xel : Nat → Int32}
variable {ypl ynd ymd ynh ylv ybt ydp yst yot yen : Int32} {yow yma yil ynu ynn yfa yvm yvl yvh ypu : Nat → Int32}
variable {R : Nat → Nat}
theorem sy_remains {m : Nat} {A B : Prop} (hm' : m < 32) (f : ¬ bt (ynh ||| ylv) m = true → A) (g : bt (ynh ||| ylv) m = true → B) : wpY_remains (fun r => (r = 0 → A) ∧ (¬ r = 0 → B)) ((nI nc), (nI nm), (nI nr), ypl, ynd, ymd, ynh, ylv, ybt, ydp, yst, yot, yen, fc, br, (oF pa), ups, yow, yma, (nF hm), (nF na), (nF ln), (nF op), fs, sc, (nF rk), rc, rn, yil, ynu, ynn, yfa, yvm, yvl, yvh, ypu) (nI m) := by
  unfold wpY_remains
  dsimp only
  exact yh_c hm' (fun h => ⟨narrow_b1, br_f (by decide) (g h)⟩) (fun h => ⟨narrow_b0, br_t rfl (f (by rw [h]; decide))⟩)
theorem sy_meet21 {a b : Nat} {A B : Prop} (h10 : nc ≤ 10) (ha : a < 32) (hb : b < 32) (f : ¬ (∃ d, d < nc ∧ bt ynd d = true ∧ bt (ups d) a = true ∧ bt (ups d) b = true) → A) (g : (∃ d, d < nc ∧ bt ynd d = true ∧ bt (ups d) a = true ∧ bt (ups d) b = true) → B) :
    ∀ fuel i, i ≤ nc → nc - i < fuel → (∀ d, d < i → ¬ (bt ynd d = true ∧ bt (ups d) a = true ∧ bt (ups d) b = true)) → wY_meet_21 (fun r => (r = 0 → A) ∧ (¬ r = 0 → B)) (((1 : Int32) <<< (nI a &&& 31)) ||| ((1 : Int32) <<< (nI b &&& 31))) (nI nc) (nI nm) (nI nr) ypl ynd ymd ynh ylv ybt ydp yst yot yen fc br (oF pa) ups yow yma (nF hm) (nF na) (nF ln) (nF op) fs sc (nF rk) rc rn yil ynu ynn yfa yvm yvl yvh ypu fuel (nI i) := by
  intro fuel
  induction fuel with
  | zero => intro i _ h; omega
  | succ fu ih =>
    intro i hi hf hd
    rw [wY_meet_21]
    refine pk_le nc i (fun h => br_t rfl (f ?_)) (fun h => ?_)
    · rintro ⟨d, d1, d2⟩
      exact hd d (by omega) d2
    · have hskip : ¬ (bt ynd i = true ∧ bt (ups i) a = true ∧ bt (ups i) b = true) → ∀ y, y = nI i + 1 → wY_meet_21 (fun r => (r = 0 → A) ∧ (¬ r = 0 → B)) (((1 : Int32) <<< (nI a &&& 31)) ||| ((1 : Int32) <<< (nI b &&& 31))) (nI nc) (nI nm) (nI nr) ypl ynd ymd ynh ylv ybt ydp yst yot yen fc br (oF pa) ups yow yma (nF hm) (nF na) (nF ln) (nF op) fs sc (nF rk) rc rn yil ynu ynn yfa yvm yvl yvh ypu fu y := fun hne =>
        nm_r (nI_1 i) (ih (i + 1) (by omega) (by omega) (lt_s hd hne))
      rw [nI_clamp (n := i) (by omega)]
      refine yh_b (by omega) (fun hb' => hskip (fun z => by rw [z.1] at hb'; cases hb')) (fun hb' => ⟨vp_in_nI (by omega) (by decide), br_c (fun hz => br_f (by decide) (g ⟨i, h, hb', (b_both ha hb).mp hz⟩)) (fun hz => hskip (fun z => hz ((b_both ha hb).mpr z.2)))⟩)
theorem sy_meet {a b : Nat} {A B : Prop} (M : sp_mth nc nm fc hm na ln br dc) (h10 : nc ≤ 10) (ha : a < nm) (hb : b < nm) (f : ¬ (∃ d, d < nc ∧ bt ynd d = true ∧ bt (ups d) (hm a) = true ∧ bt (ups d) (hm b) = true) → A) (g : (∃ d, d < nc ∧ bt ynd d = true ∧ bt (ups d) (hm a) = true ∧ bt (ups d) (hm b) = true) → B) :
    wpY_meet (fun r => (r = 0 → A) ∧ (¬ r = 0 → B)) ((nI nc), (nI nm), (nI nr), ypl, ynd, ymd, ynh, ylv, ybt, ydp, yst, yot, yen, fc, br, (oF pa), ups, yow, yma, (nF hm), (nF na), (nF ln), (nF op), fs, sc, (nF rk), rc, rn, yil, ynu, ynn, yfa, yvm, yvl, yvh, ypu) (nI a) (nI b) := by
  have h30 := M.1
  have ha' := (M.2.1 a ha).1
  have hb' := (M.2.1 b hb).1
  unfold wpY_meet
  dsimp only
  rw [nI_clamp (n := a) (by omega), nI_clamp (n := b) (by omega), nF_a, nF_a]
  refine And.intro (vp_in_nI (by omega) (by decide)) (And.intro (vp_in_nI (by omega) (by decide)) (nm_e ⟨nc + 1, ?_⟩))
  exact sy_meet21 h10 (by omega) (by omega) f g (nc + 1) 0 (by omega) (by omega) (fun d hd => by omega)
theorem sy_families33 {post : SY → Prop} {J25 : Int32 → (Nat → Int32) → (Nat → Int32) → (Nat → Int32) → (Nat → Int32) → (Nat → Int32) → (Nat → Int32) → (Nat → Int32) → (Nat → Int32) → (Nat → Int32) → (Nat → Int32) → (Nat → Int32) → (Nat → Int32) → (Nat → Int32) → (Nat → Int32) → (Nat → Int32) → (Nat → Int32) → (Nat → Int32) → (Nat → Int32) → (Nat → Int32) → (Nat → Int32) → (Nat → Int32) → (Nat → Int32) → (Nat → Int32) → Prop} (C : sp_cls nc fc pa ups) (M : sp_mth nc nm fc hm na ln br dc) {s0 : Nat}
    (K0 : ∀ (yfa : Nat → Int32) (R : Nat → Nat), (∀ m, m < nm → yfa m = nI (R m)) → sf_R nc nm ups hm na ynd (ynh ||| ylv) R → J25 0 fc br (oF pa) ups yow yma (nF hm) (nF na) (nF ln) (nF op) fs sc (nF rk) rc rn yil ynu ynn yfa yvm yvl yvh ypu)
    (K1 : ∀ (yfa : Nat → Int32) (R : Nat → Nat), (∀ m, m < nm → yfa m = nI (R m)) → (∀ m, m < nm → R m ≤ m) → sf_con nc nm ups hm na ynd (ynh ||| ylv) R → sf_sum R nm < s0 → J25 1 fc br (oF pa) ups yow yma (nF hm) (nF na) (nF ln) (nF op) fs sc (nF rk) rc rn yil ynu ynn yfa yvm yvl yvh ypu) :
    ∀ fuel i (x1 : Int32) (yfa : Nat → Int32) (R : Nat → Nat), i ≤ nm * nm → nm * nm - i < fuel → (∀ m, m < nm → yfa m = nI (R m)) → (∀ m, m < nm → R m ≤ m) → sf_con nc nm ups hm na ynd (ynh ||| ylv) R →
      (x1 = 0 ∧ sf_sum R nm ≤ s0 ∧ (∀ a b, a < nm → b < nm → nm * a + b < i → sf_E nc nm ups hm na ynd (ynh ||| ylv) a b → R b ≤ R a) ∨ x1 = 1 ∧ sf_sum R nm < s0) → wY_families_33 post J25 (nI nc) (nI nm) (nI nr) ypl ynd ymd ynh ylv ybt ydp yst yot yen fuel x1 (nI i) fc br (oF pa) ups yow yma (nF hm) (nF na) (nF ln) (nF op) fs sc (nF rk) rc rn yil ynu ynn yfa yvm yvl yvh ypu := by
  intro fuel
  induction fuel with
  | zero => intro i _ _ _ _ h; omega
  | succ fu ih =>
    intro i x1 yfa R hi hf hfa hle H I
    have h10 := C.1
    have h30 := M.1
    have h900 : nm * nm ≤ 30 * 30 := Nat.mul_le_mul h30 h30
    have hpr : ∀ a b, a < nm → b < nm → nm * a + b < nm * nm := fun a b ha hb => by
      have h1 : nm * a + nm = nm * (a + 1) := (Nat.mul_succ nm a).symm
      have h2 : nm * (a + 1) ≤ nm * nm := Nat.mul_le_mul_left nm ha
      omega
    rw [wY_families_33]
    dsimp only
    rw [pk_mul]
    refine pk_le (nm * nm) i (fun h => ?_) (fun h => ?_)
    · rcases I with ⟨e, e1, e2⟩ | ⟨e, e1⟩
      · rw [e]
        refine K0 yfa R hfa ⟨fun a b hE => ?_, hle, H⟩
        have h1 := e2 a b hE.1 hE.2.1 (by have := hpr a b hE.1 hE.2.1; omega) hE
        have hE' : sf_E nc nm ups hm na ynd (ynh ||| ylv) b a := by
          obtain ⟨a1, a2, a3, a4, a5, d, d1, d2, d3, d4⟩ := hE
          exact ⟨a2, a1, a4, a3, a5.symm, d, d1, d2, d4, d3⟩
        have h2 := e2 b a hE.2.1 hE.1 (by have := hpr b a hE.2.1 hE.1; omega) hE'
        omega
      · rw [e]
        exact K1 yfa R hfa hle H e1
    · have hn0 : 0 < nm := by
        rcases Nat.eq_zero_or_pos nm with z | z
        · rw [z] at h; omega
        · exact z
      have hdm := Nat.div_add_mod i nm
      have ha : i / nm < nm := Nat.div_lt_of_lt_mul h
      have hb : i % nm < nm := Nat.mod_lt _ hn0
      have hne0 : ¬ nI nm = 0 := nI_ne0 hn0 (by omega)
      have ha1 := hle _ ha
      have hb1 := hle _ hb
      rw [pk_rem (by omega) hn0 (by omega), pk_div (by omega) hn0 (by omega)]
      generalize ea : i / nm = a at *
      generalize eb : i % nm = b at *
      have hskip : ¬ (sf_E nc nm ups hm na ynd (ynh ||| ylv) a b ∧ R a < R b) → ∀ y, y = nI i + 1 → wY_families_33 post J25 (nI nc) (nI nm) (nI nr) ypl ynd ymd ynh ylv ybt ydp yst yot yen fu x1 y fc br (oF pa) ups yow yma (nF hm) (nF na) (nF ln) (nF op) fs sc (nF rk) rc rn yil ynu ynn yfa yvm yvl yvh ypu := fun hne =>
        nm_r (nI_1 i) (ih (i + 1) x1 yfa R (by omega) (by omega) hfa hle H (I.imp (fun ⟨e, e1, e2⟩ => ⟨e, e1, fun x y hx hy hlt hE => by
          by_cases z : nm * x + y = i
          · have e3 : x = a := by rw [← ea, ← z, Nat.mul_add_div hn0, Nat.div_eq_of_lt hy, Nat.add_zero]
            have e4 : y = b := by rw [← eb, ← z, Nat.mul_add_mod, Nat.mod_eq_of_lt hy]
            rw [e3, e4] at hE ⊢
            exact Nat.le_of_not_lt (fun w => hne ⟨hE, w⟩)
          · exact e2 x y hx hy (by omega) hE⟩) id))
      have hva : vp_in (nI a) 30 := vp_in_nI (by omega) (by decide)
      have hvb : vp_in (nI b) 30 := vp_in_nI (by omega) (by decide)
      have hna := (M.2.1 a ha).2.1
      have hnb := (M.2.1 b hb).2.1
      refine ⟨hne0, nm_e ⟨hne0, nm_e ?_⟩⟩
      rw [nI_clamp (n := a) (by omega), nI_clamp (n := b) (by omega), nF_a, nF_a, hfa a ha, hfa b hb]
      refine sy_remains (by omega) (fun hs => hskip (fun z => hs z.1.2.2.1)) (fun hs => sy_remains (by omega) (fun hs2 => hskip (fun z => hs2 z.1.2.2.2.1)) (fun hs2 => ⟨hva, hvb, pk_eq (na a) (na b) (fun en => ⟨hva, hvb, pk_le (R b) (R a) (fun hl => hskip (fun z => by omega)) (fun hl => sy_meet M h10 ha hb (fun hme => hskip (fun z => hme z.1.2.2.2.2.2)) (fun hme => ⟨hva, hvb, nm_e (nm_r (nI_1 i) ?_)⟩))⟩) (fun en => hskip (fun z => en z.1.2.2.2.2.1))⟩))
      have hE : sf_E nc nm ups hm na ynd (ynh ||| ylv) a b := ⟨ha, hb, hs, hs2, en, hme⟩
      have hsum : sf_sum (un R b (R a)) nm < sf_sum R nm := sf_sum_l hl hb
      refine ih (i + 1) 1 _ (un R b (R a)) (by omega) (by omega) (fun m hm' => ?_) (fun m hm' => ?_) (fun m hm' g hg => ?_) (Or.inr ⟨rfl, ?_⟩)
      · by_cases z : m = b
        · rw [z, pk_us, un_s]
        · rw [pk_un z, un_n z]; exact hfa m hm'
      · by_cases z : m = b
        · rw [z, un_s]; omega
        · rw [un_n z]; exact hle m hm'
      · by_cases z : m = b
        · rw [z, un_s, H a ha g hg, hg a b hE]
        · rw [un_n z]; exact H m hm' g hg
      · rcases I with ⟨_, e1, _⟩ | ⟨_, e1⟩ <;> omega
theorem sy_families25 {post : SY → Prop} (C : sp_cls nc fc pa ups) (M : sp_mth nc nm fc hm na ln br dc)
    (K : ∀ (yfa : Nat → Int32) (R : Nat → Nat), (∀ m, m < nm → yfa m = nI (R m)) → sf_R nc nm ups hm na ynd (ynh ||| ylv) R → post ((nI nc), (nI nm), (nI nr), ypl, ynd, ymd, ynh, ylv, ybt, ydp, yst, yot, yen, fc, br, (oF pa), ups, yow, yma, (nF hm), (nF na), (nF ln), (nF op), fs, sc, (nF rk), rc, rn, yil, ynu, ynn, yfa, yvm, yvl, yvh, ypu)) :
    ∀ fuel (yfa : Nat → Int32) (R : Nat → Nat), sf_sum R nm + 1 < fuel → (∀ m, m < nm → yfa m = nI (R m)) → (∀ m, m < nm → R m ≤ m) → sf_con nc nm ups hm na ynd (ynh ||| ylv) R → wY_families_25 post (nI nc) (nI nm) (nI nr) ypl ynd ymd ynh ylv ybt ydp yst yot yen fuel 1 fc br (oF pa) ups yow yma (nF hm) (nF na) (nF ln) (nF op) fs sc (nF rk) rc rn yil ynu ynn yfa yvm yvl yvh ypu := by
  intro fuel
  induction fuel with
  | zero => intro _ _ h; omega
  | succ fu ih =>
    intro yfa R hf hfa hle H
    rw [wY_families_25]
    refine br_f (by decide) ⟨nm * nm + 1, ?_⟩
    rw [← nI_0]
    refine sy_families33 C M (s0 := sf_sum R nm) (fun yfa' R' h1 h2 => ?_) (fun yfa' R' h1 h2 h3 h4 => ih yfa' R' (by omega) h1 h2 h3) (nm * nm + 1) 0 0 yfa R (by omega) (by omega) hfa hle H (Or.inl ⟨rfl, Nat.le_refl _, fun a b _ _ h => by omega⟩)
    obtain ⟨f', rfl⟩ : ∃ f', fu = f' + 1 := ⟨fu - 1, by omega⟩
    rw [wY_families_25]
    exact br_t rfl (K yfa' R' h1 h2)
theorem sy_families2 {post : SY → Prop} (C : sp_cls nc fc pa ups) (M : sp_mth nc nm fc hm na ln br dc)
    (K : ∀ (yfa : Nat → Int32) (R : Nat → Nat), (∀ m, m < nm → yfa m = nI (R m)) → sf_R nc nm ups hm na ynd (ynh ||| ylv) R → post ((nI nc), (nI nm), (nI nr), ypl, ynd, ymd, ynh, ylv, ybt, ydp, yst, yot, yen, fc, br, (oF pa), ups, yow, yma, (nF hm), (nF na), (nF ln), (nF op), fs, sc, (nF rk), rc, rn, yil, ynu, ynn, yfa, yvm, yvl, yvh, ypu)) :
    ∀ fuel i (yfa : Nat → Int32), i ≤ nm → nm - i < fuel → (∀ m, m < i → yfa m = nI m) → wY_families_2 post (nI nc) (nI nm) (nI nr) ypl ynd ymd ynh ylv ybt ydp yst yot yen fuel (nI i) fc br (oF pa) ups yow yma (nF hm) (nF na) (nF ln) (nF op) fs sc (nF rk) rc rn yil ynu ynn yfa yvm yvl yvh ypu := by
  intro fuel
  induction fuel with
  | zero => intro i _ _ h; omega
  | succ fu ih =>
    intro i yfa hi hf h1
    have h30 := M.1
    rw [wY_families_2]
    refine pk_le nm i (fun h => ⟨sf_sum (fun x => x) nm + 2, ?_⟩) (fun h => ⟨vp_in_nI (by omega) (by decide), ?_⟩)
    · exact sy_families25 C M K _ yfa (fun x => x) (by omega) (fun m hm' => h1 m (by omega)) (fun m _ => Nat.le_refl _) (fun m _ g _ => rfl)
    · rw [nI_clamp (n := i) (by omega)]
      refine nm_e (nm_r (nI_1 i) (ih (i + 1) _ (by omega) (by omega) (fun m hm' => ?_)))
      by_cases z : m = i
      · rw [z, pk_us]
      · rw [pk_un z]; exact h1 m (by omega)
theorem sy_families {post : SY → Prop} (C : sp_cls nc fc pa ups) (M : sp_mth nc nm fc hm na ln br dc)
    (K : ∀ (yfa : Nat → Int32) (R : Nat → Nat), (∀ m, m < nm → yfa m = nI (R m)) → sf_R nc nm ups hm na ynd (ynh ||| ylv) R → post ((nI nc), (nI nm), (nI nr), ypl, ynd, ymd, ynh, ylv, ybt, ydp, yst, yot, yen, fc, br, (oF pa), ups, yow, yma, (nF hm), (nF na), (nF ln), (nF op), fs, sc, (nF rk), rc, rn, yil, ynu, ynn, yfa, yvm, yvl, yvh, ypu)) : wpY_families post ((nI nc), (nI nm), (nI nr), ypl, ynd, ymd, ynh, ylv, ybt, ydp, yst, yot, yen, fc, br, (oF pa), ups, yow, yma, (nF hm), (nF na), (nF ln), (nF op), fs, sc, (nF rk), rc, rn, yil, ynu, ynn, yfa, yvm, yvl, yvh, ypu) :=
  ⟨nm + 1, sy_families2 C M K (nm + 1) 0 yfa (by omega) (by omega) (fun m h => by omega)⟩
end
end
section
/-! new names of methods -/
def sn_km (nr : Nat) (rc rn : Nat → Int32) (hm na : Nat → Nat) (m : Nat) : Prop := ∃ r, r < nr ∧ bt (rc r) (hm m) = true ∧ bt (rn r) (na m) = true
def sn_ki (nr : Nat) (rc rn : Nat → Int32) (hm na : Nat → Nat) (st : Int32) (R : Nat → Nat) (i f : Nat) : Prop := ∃ m, m < i ∧ bt st m = true ∧ R m = f ∧ sn_km nr rc rn hm na m
/-- name n is taken for family f: a family that has it already is seen by a class that sees f -/
def sn_TK (nc nm nr : Nat) (ups rc rn : Nat → Int32) (hm na : Nat → Nat) (nd st : Int32) (R : Nat → Nat) (nam : Nat → Option Nat) (f n : Nat) : Prop :=
  ∃ g, g < nm ∧ bt st g = true ∧ R g = g ∧ (sn_ki nr rc rn hm na st R nm g ∨ g < f) ∧ nam g = some n ∧ ∃ e, sf_SG nc nm ups hm nd st R g e ∧ sf_SG nc nm ups hm nd st R f e
def sn_sp1 (nc nm nr : Nat) (ups rc rn : Nat → Int32) (hm na : Nat → Nat) (nd st : Int32) (R : Nat → Nat) (nam : Nat → Option Nat) (f : Nat) : Prop :=
  ∃ n, nam f = some n ∧ ¬ sn_TK nc nm nr ups rc rn hm na nd st R nam f n ∧ ∀ j, j < n → sn_TK nc nm nr ups rc rn hm na nd st R nam f j
def sn_sp (nc nm nr : Nat) (ups rc rn : Nat → Int32) (hm na : Nat → Nat) (nd st : Int32) (R : Nat → Nat) (nam : Nat → Option Nat) : Prop :=
  (∀ f, f < nm → sn_ki nr rc rn hm na st R nm f → nam f = some (na f)) ∧
  (∀ f, f < nm → bt st f = true → R f = f → ¬ sn_ki nr rc rn hm na st R nm f → sn_sp1 nc nm nr ups rc rn hm na nd st R nam f)
theorem sn_pig {N : Nat} {P : Nat → Prop} {v : Nat → Option Nat} : ∀ n, (∀ j, j < n → ∃ g, g < N ∧ P g ∧ v g = some j) → n ≤ cn (fun g => P g ∧ ∃ j, j < n ∧ v g = some j) N := by
  intro n
  induction n with
  | zero => intro _; omega
  | succ n ih =>
    intro h
    have h1 := ih (fun j hj => h j (by omega))
    obtain ⟨g, g1, g2, g3⟩ := h n (by omega)
    have h2 : cn (fun g => P g ∧ ∃ j, j < n ∧ v g = some j) N < cn (fun g => P g ∧ ∃ j, j < n + 1 ∧ v g = some j) N :=
      cn_lt (a := g) (fun z => by obtain ⟨j, j1, j2⟩ := z.2; rw [g3] at j2; cases j2; omega) ⟨g2, n, by omega, g3⟩ (fun k _ z => ⟨z.1, by obtain ⟨j, j1, j2⟩ := z.2; exact ⟨j, by omega, j2⟩⟩) g1
    omega
section
variable {nc nm nr : Nat} {ups rc rn : Nat → Int32} {hm na : Nat → Nat} {nd st : Int32} {R : Nat → Nat} {nam : Nat → Option Nat}
theorem sn_TKn {f n : Nat} (hf : f < nm) (hk : ¬ sn_ki nr rc rn hm na st R nm f) (h : ∀ j, j < n → sn_TK nc nm nr ups rc rn hm na nd st R nam f j) : n < nm := by
  have h1 := sn_pig (N := nm) (P := fun g => g ≠ f) (v := nam) n (fun j hj => by
    obtain ⟨g, g1, g2, g3, g4, g5, _⟩ := h j hj
    refine ⟨g, g1, fun z => ?_, g5⟩
    rw [z] at g4
    exact g4.elim hk (fun y => by omega))
  have h2 : cn (fun g => g ≠ f ∧ ∃ j, j < n ∧ nam g = some j) nm < cn (fun _ => True) nm := cn_lt (a := f) (fun z => z.1 rfl) trivial (fun _ _ _ => trivial) hf
  have h3 := cn_le (fun _ => True) nm
  omega
theorem sn_TKu {v : Option Nat} {c f n : Nat} (hc : f ≤ c) (hk : ¬ sn_ki nr rc rn hm na st R nm c) : sn_TK nc nm nr ups rc rn hm na nd st R (uo nam c v) f n ↔ sn_TK nc nm nr ups rc rn hm na nd st R nam f n := by
  refine exists_congr fun g => and_congr Iff.rfl (and_congr Iff.rfl (and_congr Iff.rfl ⟨fun ⟨a, b, c'⟩ => ⟨a, ?_, c'⟩, fun ⟨a, b, c'⟩ => ⟨a, ?_, c'⟩⟩))
  · rw [uo_n (fun z => by rw [z] at a; exact a.elim hk (fun y => by omega))] at b; exact b
  · rw [uo_n (fun z => by rw [z] at a; exact a.elim hk (fun y => by omega))]; exact b
theorem sn_ex : ∃ nam, sn_sp nc nm nr ups rc rn hm na nd st R nam := by
  have key : ∀ c, c ≤ nm → ∃ nam, (∀ f, f < nm → sn_ki nr rc rn hm na st R nm f → nam f = some (na f)) ∧ (∀ f, f < c → ¬ sn_ki nr rc rn hm na st R nm f → sn_sp1 nc nm nr ups rc rn hm na nd st R nam f) := by
    intro c
    induction c with
    | zero =>
      intro _
      refine ⟨fun f => some (na f), fun f _ _ => rfl, fun f hf => by omega⟩
    | succ c ih =>
      intro hc
      obtain ⟨nam, h1, h2⟩ := ih (by omega)
      by_cases hk : sn_ki nr rc rn hm na st R nm c
      · refine ⟨nam, h1, fun f hf hkf => ?_⟩
        by_cases z : f = c
        · rw [z] at hkf; exact absurd hk hkf
        · exact h2 f (by omega) hkf
      · have hex : ∃ n, ¬ sn_TK nc nm nr ups rc rn hm na nd st R nam c n := by
          refine Classical.byContradiction (fun z => ?_)
          have := sn_TKn (nam := nam) (nc := nc) (ups := ups) (nd := nd) (f := c) (n := nm) (by omega) hk (fun j _ => Classical.byContradiction (fun w => z ⟨j, w⟩))
          omega
        obtain ⟨n, n1, n2⟩ := pk_least _ hex
        refine ⟨uo nam c (some n), fun f hf hkf => ?_, fun f hf hkf => ?_⟩
        · rw [uo_n (fun z => by rw [z] at hkf; exact hk hkf)]; exact h1 f hf hkf
        · by_cases z : f = c
          · subst z
            exact ⟨n, uo_s, fun w => n1 ((sn_TKu (Nat.le_refl _) hk).mp w), fun j hj => (sn_TKu (Nat.le_refl _) hk).mpr (Classical.byContradiction (n2 j hj))⟩
          · obtain ⟨k, k1, k2, k3⟩ := h2 f (by omega) hkf
            exact ⟨k, by rw [uo_n z]; exact k1, fun w => k2 ((sn_TKu (by omega) hk).mp w), fun j hj => (sn_TKu (by omega) hk).mpr (k3 j hj)⟩
  obtain ⟨nam, h1, h2⟩ := key nm (Nat.le_refl _)
  exact ⟨nam, h1, fun f hf _ _ hk => h2 f hf hk⟩
/-- each family that stands has a name below 30 -/
theorem sn_bd (h30 : nm ≤ 30) (hna : ∀ m, m < nm → na m < 10) (H : sn_sp nc nm nr ups rc rn hm na nd st R nam) {f : Nat} (hf : f < nm) (hs : bt st f = true) (hr : R f = f) : ∃ n, nam f = some n ∧ n < 30 := by
  by_cases hk : sn_ki nr rc rn hm na st R nm f
  · exact ⟨na f, H.1 f hf hk, by have := hna f hf; omega⟩
  · obtain ⟨n, n1, n2, n3⟩ := H.2 f hf hs hr hk
    have := sn_TKn hf hk n3
    exact ⟨n, n1, by omega⟩
/-- families that one class sees have different names -/
theorem sn_diff (HR : sf_R nc nm ups hm na nd st R) (H : sn_sp nc nm nr ups rc rn hm na nd st R nam) {f g e n : Nat} (hf : f < nm) (hg : g < nm) (sf : bt st f = true) (sg : bt st g = true) (rf : R f = f) (rg : R g = g) (ef : sf_SG nc nm ups hm nd st R f e) (eg : sf_SG nc nm ups hm nd st R g e) (nf : nam f = some n) (ng : nam g = some n) : f = g := by
  have key : ∀ f g, f < nm → g < nm → bt st f = true → bt st g = true → R f = f → R g = g → sf_SG nc nm ups hm nd st R f e → sf_SG nc nm ups hm nd st R g e → nam f = some n → nam g = some n → f < g → False := by
    intro f g hf hg sf sg rf rg ef eg nf ng hlt
    by_cases kf : sn_ki nr rc rn hm na st R nm f
    · by_cases kg : sn_ki nr rc rn hm na st R nm g
      · have h1 := H.1 f hf kf
        have h2 := H.1 g hg kg
        rw [nf] at h1; rw [ng] at h2
        cases h1
        have hn : na f = na g := Option.some.inj h2
        obtain ⟨e1, e2, a, a1, a2, a3, a4⟩ := ef
        obtain ⟨_, _, b, b1, b2, b3, b4⟩ := eg
        have na1 := sf_name HR.2.2 a1
        have nb1 := sf_name HR.2.2 b1
        rw [a3] at na1; rw [b3] at nb1
        have := HR.1 a b ⟨a1, b1, a2, b2, by omega, e, e1, e2, a4, b4⟩
        omega
      · obtain ⟨k, k1, k2, k3⟩ := H.2 g hg sg rg kg
        rw [ng] at k1; cases k1
        exact k2 ⟨f, hf, sf, rf, Or.inr hlt, nf, e, ef, eg⟩
    · by_cases kg : sn_ki nr rc rn hm na st R nm g
      · obtain ⟨k, k1, k2, k3⟩ := H.2 f hf sf rf kf
        rw [nf] at k1; cases k1
        exact k2 ⟨g, hg, sg, rg, Or.inl kg, ng, e, eg, ef⟩
      · obtain ⟨k, k1, k2, k3⟩ := H.2 g hg sg rg kg
        rw [ng] at k1; cases k1
        exact k2 ⟨f, hf, sf, rf, Or.inr hlt, nf, e, ef, eg⟩
  rcases Nat.lt_trichotomy f g with z | z | z
  · exact (key f g hf hg sf sg rf rg ef eg nf ng z).elim
  · exact z
  · exact (key g f hg hf sg sf rg rf eg ef ng nf z).elim
end
end
section
/-! new names of methods: the component -/
section
variable {nc nm nr : Nat} {pa : Nat → Option Nat} {hm na ln op rk cl nn : Nat → Nat} {fc ups br ic ii fs sc rc rn : Nat → Int32} {dc fd : Nat → Nat → Option Nat}
variable {xnd xmd xnh xlv xq xs xbt xft xdp xst xss xpt xtr xsm : Int32} {xfs xdc xfd xqu xwt xsi xtg xnw xfa xsg xnn xtk xrl bop bcl bin bsk bme bli bou xnf xfm xfl xfh xou xem xel : Nat → Int32}
variable {ypl ynd ymd ynh ylv ybt ydp yst yot yen : Int32} {yow yma yil ynu ynn yfa yvm yvl yvh ypu : Nat → Int32}
variable {R : Nat → Nat} {nam : Nat → Option Nat}
theorem sx_isKeptM2 {m : Nat} {x1 : Int32} {A B : Prop} (M : sp_mth nc nm fc hm na ln br dc) (h10 : nc ≤ 10) (h4 : nr ≤ 4) (hm' : m < nm) (f : ¬ sn_km nr rc rn hm na m → A) (g : sn_km nr rc rn hm na m → B) :
    ∀ fuel i, i ≤ nr → nr - i < fuel → (∀ r, r < i → ¬ (bt (rc r) (hm m) = true ∧ bt (rn r) (na m) = true)) → wX_isKept_2 (fun r => (r = 0 → A) ∧ (¬ r = 0 → B)) x1 (nI m) (nI nc) (nI nm) (nI nr) xnd xmd xnh xlv xq xs xbt xft xdp xst xss xpt xtr xsm fc (oF pa) xfs ups (nF hm) (nF na) br (nF ln) (nF op) ic ii xdc xfd (nF rk) rc rn xqu xwt xsi xtg xnw xfa xsg xnn xtk xrl bop bcl bin bsk bme bli bou xnf xfm xfl xfh xou xem xel fuel (nI i) := by
  intro fuel
  induction fuel with
  | zero => intro i _ h; omega
  | succ fu ih =>
    intro i hi hf hd
    have h30 := M.1
    rw [wX_isKept_2]
    refine pk_le nr i (fun h => br_t rfl (f ?_)) (fun h => br_t (nI_pos' (by omega)) (sx_matches M h10 h4 h hm' (fun hn => nm_r (nI_1 i) (ih (i + 1) (by omega) (by omega) (lt_s hd hn))) (fun h1 h2 => br_f (by decide) (g ⟨i, h, h1, h2⟩))))
    rintro ⟨r, r1, r2⟩
    exact hd r (by omega) r2
theorem sx_isKeptM {m : Nat} {x1 : Int32} {A B : Prop} (M : sp_mth nc nm fc hm na ln br dc) (h10 : nc ≤ 10) (h4 : nr ≤ 4) (hm' : m < nm) (f : ¬ sn_km nr rc rn hm na m → A) (g : sn_km nr rc rn hm na m → B) : wpX_isKept (fun r => (r = 0 → A) ∧ (¬ r = 0 → B)) ((nI nc), (nI nm), (nI nr), xnd, xmd, xnh, xlv, xq, xs, xbt, xft, xdp, xst, xss, xpt, xtr, xsm, fc, (oF pa), xfs, ups, (nF hm), (nF na), br, (nF ln), (nF op), ic, ii, xdc, xfd, (nF rk), rc, rn, xqu, xwt, xsi, xtg, xnw, xfa, xsg, xnn, xtk, xrl, bop, bcl, bin, bsk, bme, bli, bou, xnf, xfm, xfl, xfh, xou, xem, xel) x1 (nI m) :=
  ⟨nr + 1, sx_isKeptM2 M h10 h4 hm' f g (nr + 1) 0 (by omega) (by omega) (fun r hr => by omega)⟩
theorem sx_give {post : SX → Prop} {r n : Nat} (hr : r < 30) (hn : n < 32) (p : post ((nI nc), (nI nm), (nI nr), xnd, xmd, xnh, xlv, xq, xs, xbt, xft, xdp, xst, xss, xpt, xtr, xsm, fc, (oF pa), xfs, ups, (nF hm), (nF na), br, (nF ln), (nF op), ic, ii, xdc, xfd, (nF rk), rc, rn, xqu, xwt, xsi, xtg, xnw, xfa, xsg, (upd xnn r (nI n)), (upd xtk n (xtk n ||| xsg r)), xrl, bop, bcl, bin, bsk, bme, bli, bou, xnf, xfm, xfl, xfh, xou, xem, xel)) : wpX_give post ((nI nc), (nI nm), (nI nr), xnd, xmd, xnh, xlv, xq, xs, xbt, xft, xdp, xst, xss, xpt, xtr, xsm, fc, (oF pa), xfs, ups, (nF hm), (nF na), br, (nF ln), (nF op), ic, ii, xdc, xfd, (nF rk), rc, rn, xqu, xwt, xsi, xtg, xnw, xfa, xsg, xnn, xtk, xrl, bop, bcl, bin, bsk, bme, bli, bou, xnf, xfm, xfl, xfh, xou, xem, xel) (nI r) (nI n) := by
  unfold wpX_give
  dsimp only
  have hvr : vp_in (nI r) 30 := vp_in_nI hr (by decide)
  have hvn : vp_in (nI n) 32 := vp_in_nI hn (by decide)
  rw [nI_clamp (n := r) (by omega), nI_clamp (n := n) (by omega), sd_vbb (by omega)]
  exact And.intro hvr (nm_e (And.intro hvn (And.intro hvr (And.intro hvn (nm_e p)))))
theorem sx_rename182 {post : SX → Prop} (h30 : nm ≤ 30) (F : sf_RF nm xfa R) (HR : sf_R nc nm ups hm na xnd (xlv ||| xnh) R) (HB : ∀ f, f < nm → bt (xlv ||| xnh) f = true → R f = f → ∃ n, nam f = some n ∧ n < 30)
    (K : ∀ xnn : Nat → Int32, (∀ m, m < nm → bt (xlv ||| xnh) m = true → xnn m = oI (nam (R m))) → post ((nI nc), (nI nm), (nI nr), xnd, xmd, xnh, xlv, xq, xs, xbt, xft, xdp, xst, xss, xpt, xtr, xsm, fc, (oF pa), xfs, ups, (nF hm), (nF na), br, (nF ln), (nF op), ic, ii, xdc, xfd, (nF rk), rc, rn, xqu, xwt, xsi, xtg, xnw, xfa, xsg, xnn, xtk, xrl, bop, bcl, bin, bsk, bme, bli, bou, xnf, xfm, xfl, xfh, xou, xem, xel)) :
    ∀ fuel i (xnn : Nat → Int32), i ≤ nm → nm - i < fuel → (∀ f, f < nm → bt (xlv ||| xnh) f = true → R f = f → xnn f = oI (nam f)) → (∀ m, m < i → bt (xlv ||| xnh) m = true → xnn m = oI (nam (R m))) → wX_rename_182 post (nI nc) (nI nm) (nI nr) xnd xmd xnh xlv xq xs xbt xft xdp xst xss xpt xtr xsm fuel (nI i) fc (oF pa) xfs ups (nF hm) (nF na) br (nF ln) (nF op) ic ii xdc xfd (nF rk) rc rn xqu xwt xsi xtg xnw xfa xsg xnn xtk xrl bop bcl bin bsk bme bli bou xnf xfm xfl xfh xou xem xel := by
  intro fuel
  induction fuel with
  | zero => intro i _ _ h; omega
  | succ fu ih =>
    intro i xnn hi hf h1 h2
    rw [wX_rename_182]
    refine pk_le nm i (fun h => K xnn (fun m hm' => h2 m (by omega))) (fun h => ?_)
    refine sx_stands (by omega) (fun hs => nm_r (nI_1 i) (ih (i + 1) xnn (by omega) (by omega) h1 (lt_s h2 (fun z => absurd z hs)))) (fun hs => sx_rootOf h30 F h ?_)
    have hRi := HR.2.1 i h
    have hRs := sf_st HR.2.2 h hs
    have hRR := sf_idem HR h
    obtain ⟨n, n1, n2⟩ := HB (R i) (by omega) hRs hRR
    have e := h1 (R i) (by omega) hRs hRR
    rw [n1] at e
    rw [nI_clamp (n := R i) (by omega), nI_clamp (n := i) (by omega), e, oI_s, sd_vb (by omega)]
    refine And.intro (vp_in_nI (by omega) (by decide)) (And.intro (vp_in_nI (by omega) (by decide)) (nm_e (nm_r (nI_1 i) (ih (i + 1) _ (by omega) (by omega) (fun f hf' a b => ?_) (lt_s (fun m hm' a => ?_) (fun _ => ?_))))))
    · by_cases z : f = i
      · rw [z] at b ⊢
        rw [b] at n1
        rw [pk_us, n1]; rfl
      · rw [pk_un z]; exact h1 f hf' a b
    · rw [pk_un (by omega)]; exact h2 m hm' a
    · rw [pk_us, n1]; rfl
theorem sx_rename146 {post : SX → Prop} {J110 : Int32 → Int32 → Int32 → Int32 → Int32 → Int32 → Int32 → Int32 → Int32 → Int32 → Int32 → Int32 → Int32 → Int32 → Int32 → Int32 → Int32 → Int32 → (Nat → Int32) → (Nat → Int32) → (Nat → Int32) → (Nat → Int32) → (Nat → Int32) → (Nat → Int32) → (Nat → Int32) → (Nat → Int32) → (Nat → Int32) → (Nat → Int32) → (Nat → Int32) → (Nat → Int32) → (Nat → Int32) → (Nat → Int32) → (Nat → Int32) → (Nat → Int32) → (Nat → Int32) → (Nat → Int32) → (Nat → Int32) → (Nat → Int32) → (Nat → Int32) → (Nat → Int32) → (Nat → Int32) → (Nat → Int32) → (Nat → Int32) → (Nat → Int32) → (Nat → Int32) → (Nat → Int32) → (Nat → Int32) → (Nat → Int32) → (Nat → Int32) → (Nat → Int32) → (Nat → Int32) → (Nat → Int32) → (Nat → Int32) → (Nat → Int32) → (Nat → Int32) → (Nat → Int32) → (Nat → Int32) → (Nat → Int32) → Prop} {i f k : Nat} (hf : f < 30) (hk : k < 32) (h1 : xtk k &&& xsg f = 0) (h2 : ∀ j, j < k → ¬ xtk j &&& xsg f = 0)
    (K : J110 (nI (i + 1)) (nI nc) (nI nm) (nI nr) xnd xmd xnh xlv xq xs xbt xft xdp xst xss xpt xtr xsm fc (oF pa) xfs ups (nF hm) (nF na) br (nF ln) (nF op) ic ii xdc xfd (nF rk) rc rn xqu xwt xsi xtg xnw xfa xsg (upd xnn f (nI k)) (upd xtk k (xtk k ||| xsg f)) xrl bop bcl bin bsk bme bli bou xnf xfm xfl xfh xou xem xel) :
    ∀ fuel j, j ≤ k → k - j < fuel → wX_rename_146 post J110 (nI i) (nI f) (nI nc) (nI nm) (nI nr) xnd xmd xnh xlv xq xs xbt xft xdp xst xss xpt xtr xsm fc (oF pa) xfs ups (nF hm) (nF na) br (nF ln) (nF op) ic ii xdc xfd (nF rk) rc rn xqu xwt xsi xtg xnw xfa xsg xnn xtk xrl bop bcl bin bsk bme bli bou xnf xfm xfl xfh xou xem xel fuel (nI j) := by
  intro fuel
  induction fuel with
  | zero => intro j _ h; omega
  | succ fu ih =>
    intro j hj hfu
    rw [wX_rename_146]
    dsimp only
    rw [nI_clamp (n := j) (by omega), nI_clamp (n := f) (by omega)]
    refine ⟨vp_in_nI (by omega) (by decide), vp_in_nI (by omega) (by decide), ?_⟩
    by_cases z : j = k
    · subst z
      exact br_t h1 (sx_give hf hk (nm_r (nI_1 i) K))
    · exact br_f (h2 j (by omega)) (nm_r (nI_1 j) (ih (j + 1) (by omega) (by omega)))
theorem sx_rename110 {post : SX → Prop} (C : sp_cls nc fc pa ups) (M : sp_mth nc nm fc hm na ln br dc) (F : sf_RF nm xfa R) (HR : sf_R nc nm ups hm na xnd (xlv ||| xnh) R) (HS : ∀ r e, r < nm → (bt (xsg r) e = true ↔ sf_SG nc nm ups hm xnd (xlv ||| xnh) R r e)) (HN : sn_sp nc nm nr ups rc rn hm na xnd (xlv ||| xnh) R nam)
    (K : ∀ xnn xtk : Nat → Int32, (∀ m, m < nm → bt (xlv ||| xnh) m = true → xnn m = oI (nam (R m))) → post ((nI nc), (nI nm), (nI nr), xnd, xmd, xnh, xlv, xq, xs, xbt, xft, xdp, xst, xss, xpt, xtr, xsm, fc, (oF pa), xfs, ups, (nF hm), (nF na), br, (nF ln), (nF op), ic, ii, xdc, xfd, (nF rk), rc, rn, xqu, xwt, xsi, xtg, xnw, xfa, xsg, xnn, xtk, xrl, bop, bcl, bin, bsk, bme, bli, bou, xnf, xfm, xfl, xfh, xou, xem, xel)) :
    ∀ fuel i (xnn xtk : Nat → Int32), i ≤ nm → nm - i < fuel →
      (∀ f, f < nm → bt (xlv ||| xnh) f = true → R f = f → (sn_ki nr rc rn hm na (xlv ||| xnh) R nm f ∨ f < i → xnn f = oI (nam f)) ∧ (¬ (sn_ki nr rc rn hm na (xlv ||| xnh) R nm f ∨ f < i) → xnn f = -1)) →
      (∀ n e, n < 32 → (bt (xtk n) e = true ↔ ∃ g, g < nm ∧ bt (xlv ||| xnh) g = true ∧ R g = g ∧ (sn_ki nr rc rn hm na (xlv ||| xnh) R nm g ∨ g < i) ∧ nam g = some n ∧ sf_SG nc nm ups hm xnd (xlv ||| xnh) R g e)) → wX_rename_110 post fuel (nI i) (nI nc) (nI nm) (nI nr) xnd xmd xnh xlv xq xs xbt xft xdp xst xss xpt xtr xsm fc (oF pa) xfs ups (nF hm) (nF na) br (nF ln) (nF op) ic ii xdc xfd (nF rk) rc rn xqu xwt xsi xtg xnw xfa xsg xnn xtk xrl bop bcl bin bsk bme bli bou xnf xfm xfl xfh xou xem xel := by
  intro fuel
  induction fuel with
  | zero => intro i _ _ _ h; omega
  | succ fu ih =>
    intro i xnn xtk hi hf h1 h2
    have h30 := M.1
    have hna : ∀ m, m < nm → na m < 10 := fun m hm' => (M.2.1 m hm').2.1
    have HB : ∀ f, f < nm → bt (xlv ||| xnh) f = true → R f = f → ∃ n, nam f = some n ∧ n < 30 := fun f a b c => sn_bd h30 hna HN a b c
    rw [wX_rename_110]
    refine pk_le nm i (fun h => ⟨nm + 1, ?_⟩) (fun h => ?_)
    · rw [← nI_0]
      exact sx_rename182 h30 F HR HB (fun xnn' h' => K xnn' xtk h') (nm + 1) 0 xnn (by omega) (by omega) (fun f a b c => (h1 f a b c).1 (Or.inr (by omega))) (fun m hm' => by omega)
    · have hRi := HR.2.1 i h
      have hRR := sf_idem HR h
      have hskip : (bt (xlv ||| xnh) i = true → R i = i → sn_ki nr rc rn hm na (xlv ||| xnh) R nm i) → ∀ y, y = nI i + 1 → wX_rename_110 post fu y (nI nc) (nI nm) (nI nr) xnd xmd xnh xlv xq xs xbt xft xdp xst xss xpt xtr xsm fc (oF pa) xfs ups (nF hm) (nF na) br (nF ln) (nF op) ic ii xdc xfd (nF rk) rc rn xqu xwt xsi xtg xnw xfa xsg xnn xtk xrl bop bcl bin bsk bme bli bou xnf xfm xfl xfh xou xem xel := fun hh =>
        nm_r (nI_1 i) (ih (i + 1) xnn xtk (by omega) (by omega) (fun f a b c => by
          have hiff : (sn_ki nr rc rn hm na (xlv ||| xnh) R nm f ∨ f < i + 1) ↔ (sn_ki nr rc rn hm na (xlv ||| xnh) R nm f ∨ f < i) := ⟨fun z => z.elim Or.inl (fun y => by
            by_cases w : f = i
            · exact Or.inl (by rw [w] at b c ⊢; exact hh b c)
            · exact Or.inr (by omega)), fun z => z.elim Or.inl (fun y => Or.inr (by omega))⟩
          rw [hiff]; exact h1 f a b c) (fun n e hn => (h2 n e hn).trans (exists_congr fun g => and_congr Iff.rfl ⟨fun ⟨b, c, d, x⟩ => ⟨b, c, d.elim Or.inl (fun y => Or.inr (by omega)), x⟩, fun ⟨b, c, d, x⟩ => ⟨b, c, d.elim Or.inl (fun y => by
            by_cases w : g = i
            · exact Or.inl (by rw [w] at b c ⊢; exact hh b c)
            · exact Or.inr (by omega)), x⟩⟩)))
      refine sx_rootOf h30 F h (sx_stands (by omega) (fun hs => hskip (fun z => absurd z hs)) (fun hs => ⟨vp_in_nI (by omega) (by decide), ?_⟩))
      have hRs := sf_st HR.2.2 h hs
      rw [nI_clamp (n := R i) (by omega)]
      obtain ⟨q1, q2⟩ := h1 (R i) (by omega) hRs hRR
      by_cases ha : sn_ki nr rc rn hm na (xlv ||| xnh) R nm (R i) ∨ R i < i
      · obtain ⟨n, n1, n2⟩ := HB (R i) (by omega) hRs hRR
        rw [q1 ha, n1, oI_s]
        refine br_f (nI_pos (by omega)) (hskip (fun _ z => ?_))
        rw [z] at ha
        exact ha.elim id (fun y => by omega)
      · rw [q2 ha]
        have hii : R i = i := by
          have : ¬ R i < i := fun z => ha (Or.inr z)
          omega
        have hk : ¬ sn_ki nr rc rn hm na (xlv ||| xnh) R nm i := fun z => ha (Or.inl (by rw [hii]; exact z))
        obtain ⟨n, n1, n2, n3⟩ := HN.2 i h hs hii hk
        have hn30 := sn_TKn h hk n3
        have hTK : ∀ j, j < 32 → (¬ xtk j &&& xsg i = 0 ↔ sn_TK nc nm nr ups rc rn hm na xnd (xlv ||| xnh) R nam i j) := by
          intro j hj
          rw [b_and0]
          constructor
          · intro z
            refine Classical.byContradiction (fun w => z (fun e he => w ?_))
            obtain ⟨g, g1, g2, g3, g4, g5, g6⟩ := (h2 j e hj).mp he.1
            exact ⟨g, g1, g2, g3, g4, g5, e, g6, (HS i e h).mp he.2⟩
          · rintro ⟨g, g1, g2, g3, g4, g5, e, g6, g7⟩ z
            exact z e ⟨(h2 j e hj).mpr ⟨g, g1, g2, g3, g4, g5, g6⟩, (HS i e h).mpr g7⟩
        refine br_t (by decide) ⟨n + 1, ?_⟩
        rw [← nI_0, hii]
        refine sx_rename146 (by omega) (by omega) (Classical.byContradiction (fun z => n2 ((hTK n (by omega)).mp z))) (fun j hj => (hTK j (by omega)).mpr (n3 j hj)) (ih (i + 1) _ _ (by omega) (by omega) (fun f a b c => ?_) (fun x e hx => ?_)) (n + 1) 0 (by omega) (by omega)
        · by_cases z : f = i
          · rw [z, pk_us, n1]
            exact ⟨fun _ => rfl, fun w => absurd (Or.inr (by omega)) w⟩
          · rw [pk_un z]
            have hiff : (sn_ki nr rc rn hm na (xlv ||| xnh) R nm f ∨ f < i + 1) ↔ (sn_ki nr rc rn hm na (xlv ||| xnh) R nm f ∨ f < i) := ⟨fun z => z.elim Or.inl (fun y => Or.inr (by omega)), fun z => z.elim Or.inl (fun y => Or.inr (by omega))⟩
            rw [hiff]; exact h1 f a b c
        · by_cases z : x = n
          · rw [z, pk_us, b_or, Bool.or_eq_true, h2 n e (by omega), HS i e h]
            constructor
            · rintro (⟨g, g1, g2, g3, g4, g5⟩ | w)
              · exact ⟨g, g1, g2, g3, g4.elim Or.inl (fun y => Or.inr (by omega)), g5⟩
              · exact ⟨i, h, hs, hii, Or.inr (by omega), n1, w⟩
            · rintro ⟨g, g1, g2, g3, g4, g5, g6⟩
              by_cases y : g = i
              · rw [y] at g6; exact Or.inr g6
              · exact Or.inl ⟨g, g1, g2, g3, g4.elim Or.inl (fun w => Or.inr (by omega)), g5, g6⟩
          · rw [pk_un z, h2 x e hx]
            refine exists_congr fun g => and_congr Iff.rfl (and_congr Iff.rfl (and_congr Iff.rfl ⟨fun ⟨d, w⟩ => ⟨d.elim Or.inl (fun y => Or.inr (by omega)), w⟩, fun ⟨d, w⟩ => ⟨d.elim Or.inl (fun y => Or.inr ?_), w⟩⟩))
            have : g ≠ i := fun v => by rw [v, n1] at w; have := Option.some.inj w.1; omega
            omega
theorem sn_ki_r {nr : Nat} {rc rn : Nat → Int32} {hm na : Nat → Nat} {st : Int32} {R : Nat → Nat} {nc nm : Nat} {ups : Nat → Int32} {nd : Int32} {i f : Nat} (HR : sf_R nc nm ups hm na nd st R) (hi : i ≤ nm) (h : sn_ki nr rc rn hm na st R i f) : f < nm ∧ bt st f = true ∧ R f = f := by
  obtain ⟨m, m1, m2, m3, m4⟩ := h
  have h1 := HR.2.1 m (by omega)
  rw [← m3]
  exact ⟨by omega, sf_st HR.2.2 (by omega) m2, sf_idem HR (by omega)⟩
theorem sx_rename46 {post : SX → Prop} (C : sp_cls nc fc pa ups) (M : sp_mth nc nm fc hm na ln br dc) (h4 : nr ≤ 4) (F : sf_RF nm xfa R) (HR : sf_R nc nm ups hm na xnd (xlv ||| xnh) R) (HS : ∀ r e, r < nm → (bt (xsg r) e = true ↔ sf_SG nc nm ups hm xnd (xlv ||| xnh) R r e)) (HN : sn_sp nc nm nr ups rc rn hm na xnd (xlv ||| xnh) R nam)
    (K : ∀ xnn xtk : Nat → Int32, (∀ m, m < nm → bt (xlv ||| xnh) m = true → xnn m = oI (nam (R m))) → post ((nI nc), (nI nm), (nI nr), xnd, xmd, xnh, xlv, xq, xs, xbt, xft, xdp, xst, xss, xpt, xtr, xsm, fc, (oF pa), xfs, ups, (nF hm), (nF na), br, (nF ln), (nF op), ic, ii, xdc, xfd, (nF rk), rc, rn, xqu, xwt, xsi, xtg, xnw, xfa, xsg, xnn, xtk, xrl, bop, bcl, bin, bsk, bme, bli, bou, xnf, xfm, xfl, xfh, xou, xem, xel)) :
    ∀ fuel i (xnn xtk : Nat → Int32), i ≤ nm → nm - i < fuel →
      (∀ f, f < nm → (sn_ki nr rc rn hm na (xlv ||| xnh) R i f → xnn f = nI (na f)) ∧ (¬ sn_ki nr rc rn hm na (xlv ||| xnh) R i f → xnn f = -1)) →
      (∀ n e, n < 32 → (bt (xtk n) e = true ↔ ∃ g, sn_ki nr rc rn hm na (xlv ||| xnh) R i g ∧ na g = n ∧ sf_SG nc nm ups hm xnd (xlv ||| xnh) R g e)) → wX_rename_46 post fuel (nI i) (nI nc) (nI nm) (nI nr) xnd xmd xnh xlv xq xs xbt xft xdp xst xss xpt xtr xsm fc (oF pa) xfs ups (nF hm) (nF na) br (nF ln) (nF op) ic ii xdc xfd (nF rk) rc rn xqu xwt xsi xtg xnw xfa xsg xnn xtk xrl bop bcl bin bsk bme bli bou xnf xfm xfl xfh xou xem xel := by
  intro fuel
  induction fuel with
  | zero => intro i _ _ _ h; omega
  | succ fu ih =>
    intro i xnn xtk hi hf h1 h2
    have h10 := C.1
    have h30 := M.1
    rw [wX_rename_46]
    refine pk_le nm i (fun h => ⟨nm + 1, ?_⟩) (fun h => ?_)
    · have e : i = nm := by omega
      rw [e] at h1 h2
      rw [← nI_0]
      refine sx_rename110 C M F HR HS HN K (nm + 1) 0 xnn xtk (by omega) (by omega) (fun f a b c => ⟨fun z => ?_, fun z => ?_⟩) (fun n e hn => (h2 n e hn).trans ⟨fun ⟨g, g1, g2, g3⟩ => ?_, fun ⟨g, g1, g2, g3, g4, g5, g6⟩ => ?_⟩)
      · have hk := z.elim id (fun y => by omega)
        rw [(h1 f a).1 hk, HN.1 f a hk]; rfl
      · exact (h1 f a).2 (fun y => z (Or.inl y))
      · obtain ⟨r1, r2, r3⟩ := sn_ki_r HR (Nat.le_refl _) g1
        exact ⟨g, r1, r2, r3, Or.inl g1, by rw [HN.1 g r1 g1, g2], g3⟩
      · have hk := g4.elim id (fun y => by omega)
        rw [HN.1 g g1 hk] at g5
        exact ⟨g, hk, Option.some.inj g5, g6⟩
    · obtain ⟨m1, m2, _⟩ := M.2.1 i h
      have hRi := HR.2.1 i h
      have hnm := sf_name HR.2.2 h
      have hskip : (bt (xlv ||| xnh) i = true → sn_km nr rc rn hm na i → sn_ki nr rc rn hm na (xlv ||| xnh) R i (R i)) → ∀ y, y = nI i + 1 → wX_rename_46 post fu y (nI nc) (nI nm) (nI nr) xnd xmd xnh xlv xq xs xbt xft xdp xst xss xpt xtr xsm fc (oF pa) xfs ups (nF hm) (nF na) br (nF ln) (nF op) ic ii xdc xfd (nF rk) rc rn xqu xwt xsi xtg xnw xfa xsg xnn xtk xrl bop bcl bin bsk bme bli bou xnf xfm xfl xfh xou xem xel := fun hh => by
        have hiff : ∀ f, sn_ki nr rc rn hm na (xlv ||| xnh) R (i + 1) f ↔ sn_ki nr rc rn hm na (xlv ||| xnh) R i f := fun f =>
          ⟨fun ⟨m, a, b, c, d⟩ => by
            by_cases w : m = i
            · rw [w] at b c d; rw [← c]; exact hh b d
            · exact ⟨m, by omega, b, c, d⟩, fun ⟨m, a, b⟩ => ⟨m, by omega, b⟩⟩
        exact nm_r (nI_1 i) (ih (i + 1) xnn xtk (by omega) (by omega) (fun f hf' => by rw [hiff f]; exact h1 f hf') (fun n e hn => (h2 n e hn).trans (exists_congr fun g => and_congr (hiff g).symm Iff.rfl)))
      refine sx_rootOf h30 F h (sx_stands (by omega) (fun hs => hskip (fun z => absurd z hs)) (fun hs => ⟨vp_in_nI (by omega) (by decide), ?_⟩))
      rw [nI_clamp (n := R i) (by omega), nI_clamp (n := i) (by omega), nF_a, nF_a]
      by_cases hk : sn_ki nr rc rn hm na (xlv ||| xnh) R i (R i)
      · rw [(h1 (R i) (by omega)).1 hk]
        exact br_t (nI_pos' (by omega)) (hskip (fun _ _ => hk))
      · rw [(h1 (R i) (by omega)).2 hk]
        refine br_f (by decide) ⟨vp_in_nI (by omega) (by decide), sx_isKeptM M h10 h4 h (fun hn => hskip (fun _ z => absurd z hn)) (fun hkm => ⟨vp_in_nI (by omega) (by decide), sx_give (by omega) (by omega) (nm_r (nI_1 i) ?_)⟩)⟩
        have hiff : ∀ f, sn_ki nr rc rn hm na (xlv ||| xnh) R (i + 1) f ↔ sn_ki nr rc rn hm na (xlv ||| xnh) R i f ∨ f = R i := fun f =>
          ⟨fun ⟨m, a, b, c, d⟩ => by
            by_cases w : m = i
            · rw [w] at c; exact Or.inr c.symm
            · exact Or.inl ⟨m, by omega, b, c, d⟩, fun z => z.elim (fun ⟨m, a, b⟩ => ⟨m, by omega, b⟩) (fun e => ⟨i, by omega, hs, e.symm, hkm⟩)⟩
        refine ih (i + 1) _ _ (by omega) (by omega) (fun f hf' => ?_) (fun n e hn => ?_)
        · rw [hiff f]
          by_cases z : f = R i
          · rw [z, pk_us, hnm]
            exact ⟨fun _ => rfl, fun w => absurd (Or.inr rfl) w⟩
          · rw [pk_un z]
            exact ⟨fun w => (h1 f hf').1 (w.elim id (fun y => absurd y z)), fun w => (h1 f hf').2 (fun y => w (Or.inl y))⟩
        · by_cases z : n = na i
          · rw [z, pk_us, b_or, Bool.or_eq_true, h2 (na i) e (by omega), HS (R i) e (by omega)]
            constructor
            · rintro (⟨g, g1, g2⟩ | w)
              · exact ⟨g, (hiff g).mpr (Or.inl g1), g2⟩
              · exact ⟨R i, (hiff _).mpr (Or.inr rfl), hnm, w⟩
            · rintro ⟨g, g1, g2, g3⟩
              rcases (hiff g).mp g1 with y | y
              · exact Or.inl ⟨g, y, g2, g3⟩
              · rw [y] at g3; exact Or.inr g3
          · rw [pk_un z, h2 n e hn]
            refine exists_congr fun g => ⟨fun ⟨a, b⟩ => ⟨(hiff g).mpr (Or.inl a), b⟩, fun ⟨a, b, c⟩ => ⟨((hiff g).mp a).elim id (fun y => ?_), b, c⟩⟩
            rw [y, hnm] at b
            exact absurd b.symm z
theorem sx_rename23 {post : SX → Prop} (C : sp_cls nc fc pa ups) (M : sp_mth nc nm fc hm na ln br dc) (h4 : nr ≤ 4) (F : sf_RF nm xfa R) (HR : sf_R nc nm ups hm na xnd (xlv ||| xnh) R) (HS : ∀ r e, r < nm → (bt (xsg r) e = true ↔ sf_SG nc nm ups hm xnd (xlv ||| xnh) R r e)) (HN : sn_sp nc nm nr ups rc rn hm na xnd (xlv ||| xnh) R nam) (ht : ∀ n, n < 32 → xtk n = 0)
    (K : ∀ xnn xtk : Nat → Int32, (∀ m, m < nm → bt (xlv ||| xnh) m = true → xnn m = oI (nam (R m))) → post ((nI nc), (nI nm), (nI nr), xnd, xmd, xnh, xlv, xq, xs, xbt, xft, xdp, xst, xss, xpt, xtr, xsm, fc, (oF pa), xfs, ups, (nF hm), (nF na), br, (nF ln), (nF op), ic, ii, xdc, xfd, (nF rk), rc, rn, xqu, xwt, xsi, xtg, xnw, xfa, xsg, xnn, xtk, xrl, bop, bcl, bin, bsk, bme, bli, bou, xnf, xfm, xfl, xfh, xou, xem, xel)) :
    ∀ fuel i (xnn : Nat → Int32), i ≤ nm → nm - i < fuel → (∀ m, m < i → xnn m = -1) → wX_rename_23 post (nI nc) (nI nm) (nI nr) xnd xmd xnh xlv xq xs xbt xft xdp xst xss xpt xtr xsm fuel (nI i) fc (oF pa) xfs ups (nF hm) (nF na) br (nF ln) (nF op) ic ii xdc xfd (nF rk) rc rn xqu xwt xsi xtg xnw xfa xsg xnn xtk xrl bop bcl bin bsk bme bli bou xnf xfm xfl xfh xou xem xel := by
  intro fuel
  induction fuel with
  | zero => intro i _ _ h; omega
  | succ fu ih =>
    intro i xnn hi hf h1
    have h30 := M.1
    rw [wX_rename_23]
    refine pk_le nm i (fun h => ⟨nm + 1, ?_⟩) (fun h => ⟨vp_in_nI (by omega) (by decide), ?_⟩)
    · have h0 : ∀ f, ¬ sn_ki nr rc rn hm na (xlv ||| xnh) R 0 f := fun f ⟨m, a, _⟩ => by omega
      rw [← nI_0]
      refine sx_rename46 C M h4 F HR HS HN K (nm + 1) 0 xnn xtk (by omega) (by omega) (fun f hf' => ⟨fun z => absurd z (h0 f), fun _ => h1 f (by omega)⟩) (fun n e hn => ?_)
      rw [ht n hn, b_0]
      exact ⟨fun z => (by cases z), fun ⟨g, g1, _⟩ => absurd g1 (h0 g)⟩
    · rw [nI_clamp (n := i) (by omega), sd_vbm]
      refine nm_e (nm_r (nI_1 i) (ih (i + 1) _ (by omega) (by omega) (fun m hm' => ?_)))
      by_cases z : m = i
      · rw [z, pk_us]
      · rw [pk_un z]; exact h1 m (by omega)
theorem sx_rename2 {post : SX → Prop} (C : sp_cls nc fc pa ups) (M : sp_mth nc nm fc hm na ln br dc) (h4 : nr ≤ 4) (F : sf_RF nm xfa R) (HR : sf_R nc nm ups hm na xnd (xlv ||| xnh) R) (HS : ∀ r e, r < nm → (bt (xsg r) e = true ↔ sf_SG nc nm ups hm xnd (xlv ||| xnh) R r e)) (HN : sn_sp nc nm nr ups rc rn hm na xnd (xlv ||| xnh) R nam)
    (K : ∀ xnn xtk : Nat → Int32, (∀ m, m < nm → bt (xlv ||| xnh) m = true → xnn m = oI (nam (R m))) → post ((nI nc), (nI nm), (nI nr), xnd, xmd, xnh, xlv, xq, xs, xbt, xft, xdp, xst, xss, xpt, xtr, xsm, fc, (oF pa), xfs, ups, (nF hm), (nF na), br, (nF ln), (nF op), ic, ii, xdc, xfd, (nF rk), rc, rn, xqu, xwt, xsi, xtg, xnw, xfa, xsg, xnn, xtk, xrl, bop, bcl, bin, bsk, bme, bli, bou, xnf, xfm, xfl, xfh, xou, xem, xel)) :
    ∀ fuel i (xtk : Nat → Int32), i ≤ 32 → 32 - i < fuel → (∀ n, n < i → xtk n = 0) → wX_rename_2 post (nI nc) (nI nm) (nI nr) xnd xmd xnh xlv xq xs xbt xft xdp xst xss xpt xtr xsm fuel (nI i) fc (oF pa) xfs ups (nF hm) (nF na) br (nF ln) (nF op) ic ii xdc xfd (nF rk) rc rn xqu xwt xsi xtg xnw xfa xsg xnn xtk xrl bop bcl bin bsk bme bli bou xnf xfm xfl xfh xou xem xel := by
  intro fuel
  induction fuel with
  | zero => intro i _ _ h; omega
  | succ fu ih =>
    intro i xtk hi hf h1
    rw [wX_rename_2]
    refine pk_le 32 i (fun h => ⟨nm + 1, ?_⟩) (fun h => ⟨vp_in_nI h (by decide), ?_⟩)
    · rw [← nI_0]
      exact sx_rename23 C M h4 F HR HS HN (fun n hn => h1 n (by omega)) K (nm + 1) 0 xnn (by omega) (by omega) (fun m hm' => by omega)
    · rw [nI_clamp (n := i) (by omega)]
      refine nm_e (nm_r (nI_1 i) (ih (i + 1) _ (by omega) (by omega) (fun m hm' => ?_)))
      by_cases z : m = i
      · rw [z, pk_us]
      · rw [pk_un z]; exact h1 m (by omega)
theorem sx_rename {post : SX → Prop} (C : sp_cls nc fc pa ups) (M : sp_mth nc nm fc hm na ln br dc) (h4 : nr ≤ 4) (F : sf_RF nm xfa R) (HR : sf_R nc nm ups hm na xnd (xlv ||| xnh) R) (HS : ∀ r e, r < nm → (bt (xsg r) e = true ↔ sf_SG nc nm ups hm xnd (xlv ||| xnh) R r e)) (HN : sn_sp nc nm nr ups rc rn hm na xnd (xlv ||| xnh) R nam)
    (K : ∀ xnn xtk : Nat → Int32, (∀ m, m < nm → bt (xlv ||| xnh) m = true → xnn m = oI (nam (R m))) → post ((nI nc), (nI nm), (nI nr), xnd, xmd, xnh, xlv, xq, xs, xbt, xft, xdp, xst, xss, xpt, xtr, xsm, fc, (oF pa), xfs, ups, (nF hm), (nF na), br, (nF ln), (nF op), ic, ii, xdc, xfd, (nF rk), rc, rn, xqu, xwt, xsi, xtg, xnw, xfa, xsg, xnn, xtk, xrl, bop, bcl, bin, bsk, bme, bli, bou, xnf, xfm, xfl, xfh, xou, xem, xel)) : wpX_rename post ((nI nc), (nI nm), (nI nr), xnd, xmd, xnh, xlv, xq, xs, xbt, xft, xdp, xst, xss, xpt, xtr, xsm, fc, (oF pa), xfs, ups, (nF hm), (nF na), br, (nF ln), (nF op), ic, ii, xdc, xfd, (nF rk), rc, rn, xqu, xwt, xsi, xtg, xnw, xfa, xsg, xnn, xtk, xrl, bop, bcl, bin, bsk, bme, bli, bou, xnf, xfm, xfl, xfh, xou, xem, xel) :=
  ⟨33, sx_rename2 C M h4 F HR HS HN K 33 0 xtk (by omega) (by omega) (fun n hn => by omega)⟩
end
end
section
/-! new names of methods: the reference -/
section
variable {nc nm nr : Nat} {pa : Nat → Option Nat} {hm na ln op rk cl nn : Nat → Nat} {fc ups br ic ii fs sc rc rn : Nat → Int32} {dc fd : Nat → Nat → Option Nat}
variable {xnd xmd xnh xlv xq xs xbt xft xdp xst xss xpt xtr xsm : Int32} {xfs xdc xfd xqu xwt xsi xtg xnw xfa xsg xnn xtk xrl bop bcl bin bsk bme bli bou xnf xfm xfl xfh xou xem xel : Nat → Int32}
variable {ypl ynd ymd ynh ylv ybt ydp yst yot yen : Int32} {yow yma yil ynu ynn yfa yvm yvl yvh ypu : Nat → Int32}
variable {R : Nat → Nat} {nam : Nat → Option Nat}
theorem sy_sight57 {post : Int32 → Prop} {f : Nat} {x2 : Int32} (h10 : nc ≤ 10) (hx2 : ∀ c, bt x2 c = true ↔ ∃ m, m < nm ∧ bt (ynh ||| ylv) m = true ∧ R m = f ∧ hm m = c)
    (K : ∀ x : Int32, (∀ e, bt x e = true ↔ sf_SG nc nm ups hm ynd (ynh ||| ylv) R f e) → post x) :
    ∀ fuel j (x3 : Int32), j ≤ nc → nc - j < fuel → (∀ e, bt x3 e = true ↔ e < j ∧ sf_SG nc nm ups hm ynd (ynh ||| ylv) R f e) → wY_sight_57 post x2 (nI nc) (nI nm) (nI nr) ypl ynd ymd ynh ylv ybt ydp yst yot yen fc br (oF pa) ups yow yma (nF hm) (nF na) (nF ln) (nF op) fs sc (nF rk) rc rn yil ynu ynn yfa yvm yvl yvh ypu fuel x3 (nI j) := by
  intro fuel
  induction fuel with
  | zero => intro j _ _ h; omega
  | succ fu ih =>
    intro j x3 hj hf h1
    rw [wY_sight_57]
    refine pk_le nc j (fun h => K x3 (fun e => (h1 e).trans ⟨fun z => z.2, fun z => ⟨by have := z.1; omega, z⟩⟩)) (fun h => ?_)
    have hskip : ¬ sf_SG nc nm ups hm ynd (ynh ||| ylv) R f j → ∀ y, y = nI j + 1 → wY_sight_57 post x2 (nI nc) (nI nm) (nI nr) ypl ynd ymd ynh ylv ybt ydp yst yot yen fc br (oF pa) ups yow yma (nF hm) (nF na) (nF ln) (nF op) fs sc (nF rk) rc rn yil ynu ynn yfa yvm yvl yvh ypu fu x3 y := fun hne =>
      nm_r (nI_1 j) (ih (j + 1) x3 (by omega) (by omega) (fun e => (h1 e).trans ⟨fun z => ⟨by omega, z.2⟩, fun z => ⟨by
        have : e ≠ j := fun w => hne (by rw [← w]; exact z.2)
        omega, z.2⟩⟩))
    rw [nI_clamp (n := j) (by omega)]
    refine yh_b (by omega) (fun hb => hskip (fun z => by rw [z.2.1] at hb; cases hb)) (fun hb => ⟨vp_in_nI (by omega) (by decide), br_c (fun hz => hskip (fun z => ?_)) (fun hz => nm_e (nm_r (nI_1 j) (ih (j + 1) _ (by omega) (by omega) (fun e => ?_))))⟩)
    · obtain ⟨_, _, m, m1, m2, m3, m4⟩ := z
      exact b_and0.mp hz (hm m) ⟨m4, (hx2 _).mpr ⟨m, m1, m2, m3, rfl⟩⟩
    · have hSG : sf_SG nc nm ups hm ynd (ynh ||| ylv) R f j := by
        refine Classical.byContradiction (fun w => hz (b_and0.mpr (fun c hc => w ?_)))
        obtain ⟨m, m1, m2, m3, m4⟩ := (hx2 c).mp hc.2
        exact ⟨h, hb, m, m1, m2, m3, by rw [m4]; exact hc.1⟩
      rw [b_or1 (by omega), Bool.or_eq_true, h1 e]
      constructor
      · rintro (z | z)
        · exact ⟨by omega, z.2⟩
        · have : e = j := by simpa using z
          rw [this]; exact ⟨by omega, hSG⟩
      · rintro ⟨z1, z2⟩
        by_cases y : e = j
        · exact Or.inr (by simpa using y)
        · exact Or.inl ⟨by omega, z2⟩
theorem sy_sight7 {post : Int32 → Prop} {f : Nat} (C : sp_cls nc fc pa ups) (M : sp_mth nc nm fc hm na ln br dc) (hfa : ∀ m, m < nm → yfa m = nI (R m)) (hR : ∀ m, m < nm → R m ≤ m) (hf' : f < nm)
    (K : ∀ x : Int32, (∀ e, bt x e = true ↔ sf_SG nc nm ups hm ynd (ynh ||| ylv) R f e) → post x) :
    ∀ fuel i (x2 : Int32), i ≤ nm → nm - i < fuel → (∀ c, bt x2 c = true ↔ ∃ m, m < i ∧ bt (ynh ||| ylv) m = true ∧ R m = f ∧ hm m = c) → wY_sight_7 post (nI f) 0 (nI nc) (nI nm) (nI nr) ypl ynd ymd ynh ylv ybt ydp yst yot yen fc br (oF pa) ups yow yma (nF hm) (nF na) (nF ln) (nF op) fs sc (nF rk) rc rn yil ynu ynn yfa yvm yvl yvh ypu fuel x2 (nI i) := by
  intro fuel
  induction fuel with
  | zero => intro i _ _ h; omega
  | succ fu ih =>
    intro i x2 hi hf h1
    have h10 := C.1
    have h30 := M.1
    rw [wY_sight_7]
    refine pk_le nm i (fun h => ⟨nc + 1, ?_⟩) (fun h => ?_)
    · have e : i = nm := by omega
      rw [e] at h1
      exact sy_sight57 h10 h1 K (nc + 1) 0 0 (by omega) (by omega) (fun e => ⟨fun z => (by rw [b_0] at z; cases z), fun z => by omega⟩)
    · have hh := (M.2.1 i h).1
      have hRi := hR i h
      have hskip : ¬ (bt (ynh ||| ylv) i = true ∧ R i = f) → ∀ y, y = nI i + 1 → wY_sight_7 post (nI f) 0 (nI nc) (nI nm) (nI nr) ypl ynd ymd ynh ylv ybt ydp yst yot yen fc br (oF pa) ups yow yma (nF hm) (nF na) (nF ln) (nF op) fs sc (nF rk) rc rn yil ynu ynn yfa yvm yvl yvh ypu fu x2 y := fun hne =>
        nm_r (nI_1 i) (ih (i + 1) x2 (by omega) (by omega) (fun c => (h1 c).trans ⟨fun ⟨m, a, b⟩ => ⟨m, by omega, b⟩, fun ⟨m, a, b, d, e⟩ => ⟨m, by
          have : m ≠ i := fun w => hne (by rw [← w]; exact ⟨b, d⟩)
          omega, b, d, e⟩⟩))
      rw [nI_clamp (n := i) (by omega), nF_a, hfa i h]
      refine sy_remains (by omega) (fun hs => hskip (fun z => hs z.1)) (fun hs => ⟨vp_in_nI (by omega) (by decide), pk_eq (R i) f (fun e => ⟨vp_in_nI (by omega) (by decide), nm_e (nm_r (nI_1 i) (ih (i + 1) _ (by omega) (by omega) (fun c => ?_)))⟩) (fun e => hskip (fun z => e z.2))⟩)
      rw [b_or1 (by omega), Bool.or_eq_true, h1 c]
      constructor
      · rintro (⟨m, a, b⟩ | z)
        · exact ⟨m, by omega, b⟩
        · have : c = hm i := by simpa using z
          exact ⟨i, by omega, hs, e, this.symm⟩
      · rintro ⟨m, a, b, d, g⟩
        by_cases y : m = i
        · rw [y] at g; exact Or.inr (by simp [g])
        · exact Or.inl ⟨m, by omega, b, d, g⟩
theorem sy_sight {post : Int32 → Prop} {f : Nat} (C : sp_cls nc fc pa ups) (M : sp_mth nc nm fc hm na ln br dc) (hfa : ∀ m, m < nm → yfa m = nI (R m)) (hR : ∀ m, m < nm → R m ≤ m) (hf' : f < nm)
    (K : ∀ x : Int32, (∀ e, bt x e = true ↔ sf_SG nc nm ups hm ynd (ynh ||| ylv) R f e) → post x) : wpY_sight post ((nI nc), (nI nm), (nI nr), ypl, ynd, ymd, ynh, ylv, ybt, ydp, yst, yot, yen, fc, br, (oF pa), ups, yow, yma, (nF hm), (nF na), (nF ln), (nF op), fs, sc, (nF rk), rc, rn, yil, ynu, ynn, yfa, yvm, yvl, yvh, ypu) (nI f) :=
  ⟨nm + 1, sy_sight7 C M hfa hR hf' K (nm + 1) 0 0 (by omega) (by omega) (fun c => ⟨fun z => (by rw [b_0] at z; cases z), fun ⟨m, a, _⟩ => by omega⟩)⟩
theorem sy_isTaken9 {f n : Nat} {x3 : Int32} {A B : Prop} (C : sp_cls nc fc pa ups) (M : sp_mth nc nm fc hm na ln br dc) (hfa : ∀ m, m < nm → yfa m = nI (R m)) (hR : ∀ m, m < nm → R m ≤ m) (hn : n < 128)
    (HB : ∀ g, g < nm → bt (ynh ||| ylv) g = true → R g = g → ∃ k, nam g = some k ∧ k < 30)
    (hx3 : ∀ e, bt x3 e = true ↔ sf_SG nc nm ups hm ynd (ynh ||| ylv) R f e)
    (hcur : ∀ g, g < nm → bt (ynh ||| ylv) g = true → R g = g → (sn_ki nr rc rn hm na (ynh ||| ylv) R nm g ∨ g < f → ynn g = oI (nam g)) ∧ (¬ (sn_ki nr rc rn hm na (ynh ||| ylv) R nm g ∨ g < f) → ynn g = -1))
    (F : ¬ sn_TK nc nm nr ups rc rn hm na ynd (ynh ||| ylv) R nam f n → A) (G : sn_TK nc nm nr ups rc rn hm na ynd (ynh ||| ylv) R nam f n → B) :
    ∀ fuel i, i ≤ nm → nm - i < fuel → (∀ g, g < i → ¬ (bt (ynh ||| ylv) g = true ∧ R g = g ∧ (sn_ki nr rc rn hm na (ynh ||| ylv) R nm g ∨ g < f) ∧ nam g = some n ∧ ∃ e, sf_SG nc nm ups hm ynd (ynh ||| ylv) R g e ∧ sf_SG nc nm ups hm ynd (ynh ||| ylv) R f e)) → wY_isTaken_9 (fun r => (r = 0 → A) ∧ (¬ r = 0 → B)) (nI n) x3 (nI nc) (nI nm) (nI nr) ypl ynd ymd ynh ylv ybt ydp yst yot yen fc br (oF pa) ups yow yma (nF hm) (nF na) (nF ln) (nF op) fs sc (nF rk) rc rn yil ynu ynn yfa yvm yvl yvh ypu fuel (nI i) := by
  intro fuel
  induction fuel with
  | zero => intro i _ h; omega
  | succ fu ih =>
    intro i hi hf h1
    have h30 := M.1
    rw [wY_isTaken_9]
    refine pk_le nm i (fun h => br_t rfl (F ?_)) (fun h => ?_)
    · rintro ⟨g, g1, g2⟩
      exact h1 g (by omega) g2
    · have hRi := hR i h
      have hskip : ¬ (bt (ynh ||| ylv) i = true ∧ R i = i ∧ (sn_ki nr rc rn hm na (ynh ||| ylv) R nm i ∨ i < f) ∧ nam i = some n ∧ ∃ e, sf_SG nc nm ups hm ynd (ynh ||| ylv) R i e ∧ sf_SG nc nm ups hm ynd (ynh ||| ylv) R f e) → ∀ y, y = nI i + 1 → wY_isTaken_9 (fun r => (r = 0 → A) ∧ (¬ r = 0 → B)) (nI n) x3 (nI nc) (nI nm) (nI nr) ypl ynd ymd ynh ylv ybt ydp yst yot yen fc br (oF pa) ups yow yma (nF hm) (nF na) (nF ln) (nF op) fs sc (nF rk) rc rn yil ynu ynn yfa yvm yvl yvh ypu fu y := fun hne =>
        nm_r (nI_1 i) (ih (i + 1) (by omega) (by omega) (lt_s h1 hne))
      have h54 : ¬ (bt (ynh ||| ylv) i = true ∧ R i = i ∧ (sn_ki nr rc rn hm na (ynh ||| ylv) R nm i ∨ i < f) ∧ nam i = some n ∧ ∃ e, sf_SG nc nm ups hm ynd (ynh ||| ylv) R i e ∧ sf_SG nc nm ups hm ynd (ynh ||| ylv) R f e) → wY_isTaken_54 (fun r => (r = 0 → A) ∧ (¬ r = 0 → B)) (wY_isTaken_9 (fun r => (r = 0 → A) ∧ (¬ r = 0 → B)) (nI n) x3 (nI nc) (nI nm) (nI nr) ypl ynd ymd ynh ylv ybt ydp yst yot yen fc br (oF pa) ups yow yma (nF hm) (nF na) (nF ln) (nF op) fs sc (nF rk) rc rn yil ynu ynn yfa yvm yvl yvh ypu fu) (nI n) x3 (nI i) (nI nc) (nI nm) (nI nr) ypl ynd ymd ynh ylv ybt ydp yst yot yen fc br (oF pa) ups yow yma (nF hm) (nF na) (nF ln) (nF op) fs sc (nF rk) rc rn yil ynu ynn yfa yvm yvl yvh ypu := fun hne =>
        br_t rfl (hskip hne)
      rw [nI_clamp (n := i) (by omega), hfa i h]
      have hvi : vp_in (nI i) 30 := vp_in_nI (by omega) (by decide)
      refine sy_remains (by omega) (fun hs => h54 (fun z => hs z.1)) (fun hs => ⟨hvi, pk_eq (R i) i (fun er => ⟨hvi, ?_⟩) (fun er => h54 (fun z => er z.2.1))⟩)
      obtain ⟨c1, c2⟩ := hcur i h hs er
      by_cases ha : sn_ki nr rc rn hm na (ynh ||| ylv) R nm i ∨ i < f
      · obtain ⟨k, k1, k2⟩ := HB i h hs er
        rw [c1 ha, k1, oI_s]
        refine pk_eq k n (fun e => br_f (by decide) (sy_sight C M hfa hR h (fun x hx => br_c (fun hz => hskip (fun z => ?_)) (fun hz => br_f (by decide) (G ?_))))) (fun e => h54 (fun z => e (Option.some.inj (k1.symm.trans z.2.2.2.1))))
        · obtain ⟨_, _, _, _, w, w1, w2⟩ := z
          exact b_and0.mp hz w ⟨(hx w).mpr w1, (hx3 w).mpr w2⟩
        · refine Classical.byContradiction (fun w => hz (b_and0.mpr (fun c hc => w ?_)))
          exact ⟨i, h, hs, er, ha, by rw [k1, e], c, (hx c).mp hc.1, (hx3 c).mp hc.2⟩
      · rw [c2 ha]
        exact br_f (fun z => sd_ne1 (by omega) z.symm) (h54 (fun z => ha z.2.2.1))
theorem sy_isTaken {f n : Nat} {A B : Prop} (C : sp_cls nc fc pa ups) (M : sp_mth nc nm fc hm na ln br dc) (hfa : ∀ m, m < nm → yfa m = nI (R m)) (hR : ∀ m, m < nm → R m ≤ m) (hf : f < nm) (hn : n < 128)
    (HB : ∀ g, g < nm → bt (ynh ||| ylv) g = true → R g = g → ∃ k, nam g = some k ∧ k < 30)
    (hcur : ∀ g, g < nm → bt (ynh ||| ylv) g = true → R g = g → (sn_ki nr rc rn hm na (ynh ||| ylv) R nm g ∨ g < f → ynn g = oI (nam g)) ∧ (¬ (sn_ki nr rc rn hm na (ynh ||| ylv) R nm g ∨ g < f) → ynn g = -1))
    (F : ¬ sn_TK nc nm nr ups rc rn hm na ynd (ynh ||| ylv) R nam f n → A) (G : sn_TK nc nm nr ups rc rn hm na ynd (ynh ||| ylv) R nam f n → B) : wpY_isTaken (fun r => (r = 0 → A) ∧ (¬ r = 0 → B)) ((nI nc), (nI nm), (nI nr), ypl, ynd, ymd, ynh, ylv, ybt, ydp, yst, yot, yen, fc, br, (oF pa), ups, yow, yma, (nF hm), (nF na), (nF ln), (nF op), fs, sc, (nF rk), rc, rn, yil, ynu, ynn, yfa, yvm, yvl, yvh, ypu) (nI f) (nI n) := by
  unfold wpY_isTaken
  dsimp only
  refine sy_sight C M hfa hR hf (fun x hx => ⟨nm + 1, ?_⟩)
  exact sy_isTaken9 C M hfa hR hn HB hx hcur F G (nm + 1) 0 (by omega) (by omega) (fun g hg => by omega)
theorem sy_rename115 {post : SY → Prop} {J75 : Int32 → (Nat → Int32) → (Nat → Int32) → (Nat → Int32) → (Nat → Int32) → (Nat → Int32) → (Nat → Int32) → (Nat → Int32) → (Nat → Int32) → (Nat → Int32) → (Nat → Int32) → (Nat → Int32) → (Nat → Int32) → (Nat → Int32) → (Nat → Int32) → (Nat → Int32) → (Nat → Int32) → (Nat → Int32) → (Nat → Int32) → (Nat → Int32) → (Nat → Int32) → (Nat → Int32) → (Nat → Int32) → (Nat → Int32) → Prop} {f k : Nat} (C : sp_cls nc fc pa ups) (M : sp_mth nc nm fc hm na ln br dc) (hfa : ∀ m, m < nm → yfa m = nI (R m)) (hR : ∀ m, m < nm → R m ≤ m) (hf : f < nm) (hk : k < 30)
    (HB : ∀ g, g < nm → bt (ynh ||| ylv) g = true → R g = g → ∃ k, nam g = some k ∧ k < 30)
    (hcur : ∀ g, g < nm → bt (ynh ||| ylv) g = true → R g = g → (sn_ki nr rc rn hm na (ynh ||| ylv) R nm g ∨ g < f → ynn g = oI (nam g)) ∧ (¬ (sn_ki nr rc rn hm na (ynh ||| ylv) R nm g ∨ g < f) → ynn g = -1))
    (h1 : ¬ sn_TK nc nm nr ups rc rn hm na ynd (ynh ||| ylv) R nam f k) (h2 : ∀ j, j < k → sn_TK nc nm nr ups rc rn hm na ynd (ynh ||| ylv) R nam f j)
    (K : J75 (nI (f + 1)) fc br (oF pa) ups yow yma (nF hm) (nF na) (nF ln) (nF op) fs sc (nF rk) rc rn yil ynu (upd ynn f (nI k)) yfa yvm yvl yvh ypu) :
    ∀ fuel j, j ≤ k → k - j < fuel → wY_rename_115 post J75 (nI f) (nI nc) (nI nm) (nI nr) ypl ynd ymd ynh ylv ybt ydp yst yot yen fc br (oF pa) ups yow yma (nF hm) (nF na) (nF ln) (nF op) fs sc (nF rk) rc rn yil ynu ynn yfa yvm yvl yvh ypu fuel (nI j) := by
  intro fuel
  induction fuel with
  | zero => intro j _ h; omega
  | succ fu ih =>
    intro j hj hfu
    have h30 := M.1
    rw [wY_rename_115]
    dsimp only
    rw [nI_clamp (n := f) (by omega)]
    refine sy_isTaken C M hfa hR hf (by omega) HB hcur (fun hn => ⟨vp_in_nI (by omega) (by decide), nm_e (nm_r (nI_1 f) ?_)⟩) (fun hn => ?_)
    · have e : j = k := by
        rcases Nat.lt_or_ge j k with z | z
        · exact absurd (h2 j z) hn
        · omega
      rw [e]; exact K
    · have : j ≠ k := fun z => by rw [z] at hn; exact h1 hn
      exact nm_r (nI_1 j) (ih (j + 1) (by omega) (by omega))
theorem sy_rename75 {post : SY → Prop} (C : sp_cls nc fc pa ups) (M : sp_mth nc nm fc hm na ln br dc) (hfa : ∀ m, m < nm → yfa m = nI (R m)) (hR : ∀ m, m < nm → R m ≤ m) (HN : sn_sp nc nm nr ups rc rn hm na ynd (ynh ||| ylv) R nam)
    (K : ∀ ynn : Nat → Int32, (∀ f, f < nm → bt (ynh ||| ylv) f = true → R f = f → ynn f = oI (nam f)) → post ((nI nc), (nI nm), (nI nr), ypl, ynd, ymd, ynh, ylv, ybt, ydp, yst, yot, yen, fc, br, (oF pa), ups, yow, yma, (nF hm), (nF na), (nF ln), (nF op), fs, sc, (nF rk), rc, rn, yil, ynu, ynn, yfa, yvm, yvl, yvh, ypu)) :
    ∀ fuel i (ynn : Nat → Int32), i ≤ nm → nm - i < fuel →
      (∀ g, g < nm → bt (ynh ||| ylv) g = true → R g = g → (sn_ki nr rc rn hm na (ynh ||| ylv) R nm g ∨ g < i → ynn g = oI (nam g)) ∧ (¬ (sn_ki nr rc rn hm na (ynh ||| ylv) R nm g ∨ g < i) → ynn g = -1)) → wY_rename_75 post (nI nc) (nI nm) (nI nr) ypl ynd ymd ynh ylv ybt ydp yst yot yen fuel (nI i) fc br (oF pa) ups yow yma (nF hm) (nF na) (nF ln) (nF op) fs sc (nF rk) rc rn yil ynu ynn yfa yvm yvl yvh ypu := by
  intro fuel
  induction fuel with
  | zero => intro i _ _ h; omega
  | succ fu ih =>
    intro i ynn hi hf h1
    have h30 := M.1
    have hna : ∀ m, m < nm → na m < 10 := fun m hm' => (M.2.1 m hm').2.1
    have HB : ∀ f, f < nm → bt (ynh ||| ylv) f = true → R f = f → ∃ n, nam f = some n ∧ n < 30 := fun f a b c => sn_bd h30 hna HN a b c
    rw [wY_rename_75]
    refine pk_le nm i (fun h => K ynn (fun f a b c => (h1 f a b c).1 (Or.inr (by omega)))) (fun h => ?_)
    have hRi := hR i h
    have hskip : (bt (ynh ||| ylv) i = true → R i = i → sn_ki nr rc rn hm na (ynh ||| ylv) R nm i) → ∀ y, y = nI i + 1 → wY_rename_75 post (nI nc) (nI nm) (nI nr) ypl ynd ymd ynh ylv ybt ydp yst yot yen fu y fc br (oF pa) ups yow yma (nF hm) (nF na) (nF ln) (nF op) fs sc (nF rk) rc rn yil ynu ynn yfa yvm yvl yvh ypu := fun hh =>
      nm_r (nI_1 i) (ih (i + 1) ynn (by omega) (by omega) (fun f a b c => by
        have hiff : (sn_ki nr rc rn hm na (ynh ||| ylv) R nm f ∨ f < i + 1) ↔ (sn_ki nr rc rn hm na (ynh ||| ylv) R nm f ∨ f < i) := ⟨fun z => z.elim Or.inl (fun y => by
          by_cases w : f = i
          · exact Or.inl (by rw [w] at b c ⊢; exact hh b c)
          · exact Or.inr (by omega)), fun z => z.elim Or.inl (fun y => Or.inr (by omega))⟩
        rw [hiff]; exact h1 f a b c))
    rw [nI_clamp (n := i) (by omega), hfa i h]
    have hvi : vp_in (nI i) 30 := vp_in_nI (by omega) (by decide)
    refine sy_remains (by omega) (fun hs => hskip (fun z => absurd z hs)) (fun hs => ⟨hvi, pk_eq (R i) i (fun er => ⟨hvi, ?_⟩) (fun er => hskip (fun _ z => absurd z er))⟩)
    obtain ⟨c1, c2⟩ := h1 i h hs er
    by_cases ha : sn_ki nr rc rn hm na (ynh ||| ylv) R nm i ∨ i < i
    · obtain ⟨k, k1, k2⟩ := HB i h hs er
      rw [c1 ha, k1, oI_s]
      exact br_f (nI_pos (by omega)) (hskip (fun _ _ => ha.elim id (fun y => by omega)))
    · rw [c2 ha]
      have hk : ¬ sn_ki nr rc rn hm na (ynh ||| ylv) R nm i := fun z => ha (Or.inl z)
      obtain ⟨n, n1, n2, n3⟩ := HN.2 i h hs er hk
      have hn30 := sn_TKn h hk n3
      refine br_t (by decide) ⟨n + 1, ?_⟩
      rw [← nI_0]
      refine sy_rename115 C M hfa hR h (by omega) HB h1 n2 n3 (ih (i + 1) _ (by omega) (by omega) (fun f a b c => ?_)) (n + 1) 0 (by omega) (by omega)
      by_cases z : f = i
      · rw [z, pk_us, n1]
        exact ⟨fun _ => rfl, fun w => absurd (Or.inr (by omega)) w⟩
      · rw [pk_un z]
        have hiff : (sn_ki nr rc rn hm na (ynh ||| ylv) R nm f ∨ f < i + 1) ↔ (sn_ki nr rc rn hm na (ynh ||| ylv) R nm f ∨ f < i) := ⟨fun z => z.elim Or.inl (fun y => Or.inr (by omega)), fun z => z.elim Or.inl (fun y => Or.inr (by omega))⟩
        rw [hiff]; exact h1 f a b c
theorem sy_rename25 {post : SY → Prop} (C : sp_cls nc fc pa ups) (M : sp_mth nc nm fc hm na ln br dc) (U : sp_rul nr rk) (hfa : ∀ m, m < nm → yfa m = nI (R m)) (HR : sf_R nc nm ups hm na ynd (ynh ||| ylv) R) (HN : sn_sp nc nm nr ups rc rn hm na ynd (ynh ||| ylv) R nam)
    (K : ∀ ynn : Nat → Int32, (∀ f, f < nm → bt (ynh ||| ylv) f = true → R f = f → ynn f = oI (nam f)) → post ((nI nc), (nI nm), (nI nr), ypl, ynd, ymd, ynh, ylv, ybt, ydp, yst, yot, yen, fc, br, (oF pa), ups, yow, yma, (nF hm), (nF na), (nF ln), (nF op), fs, sc, (nF rk), rc, rn, yil, ynu, ynn, yfa, yvm, yvl, yvh, ypu)) :
    ∀ fuel i (ynn : Nat → Int32), i ≤ nm → nm - i < fuel →
      (∀ f, f < nm → (sn_ki nr rc rn hm na (ynh ||| ylv) R i f → ynn f = nI (na f)) ∧ (¬ sn_ki nr rc rn hm na (ynh ||| ylv) R i f → ynn f = -1)) → wY_rename_25 post (nI nc) (nI nm) (nI nr) ypl ynd ymd ynh ylv ybt ydp yst yot yen fuel (nI i) fc br (oF pa) ups yow yma (nF hm) (nF na) (nF ln) (nF op) fs sc (nF rk) rc rn yil ynu ynn yfa yvm yvl yvh ypu := by
  intro fuel
  induction fuel with
  | zero => intro i _ _ h; omega
  | succ fu ih =>
    intro i ynn hi hf h1
    have h10 := C.1
    have h30 := M.1
    rw [wY_rename_25]
    refine pk_le nm i (fun h => ⟨nm + 1, ?_⟩) (fun h => ?_)
    · have e : i = nm := by omega
      rw [e] at h1
      rw [← nI_0]
      refine sy_rename75 C M hfa HR.2.1 HN K (nm + 1) 0 ynn (by omega) (by omega) (fun f a b c => ⟨fun z => ?_, fun z => (h1 f a).2 (fun y => z (Or.inl y))⟩)
      have hk := z.elim id (fun y => by omega)
      rw [(h1 f a).1 hk, HN.1 f a hk]; rfl
    · have hRi := HR.2.1 i h
      have hnm := sf_name HR.2.2 h
      have hskip : (bt (ynh ||| ylv) i = true → sn_km nr rc rn hm na i → False) → ∀ y, y = nI i + 1 → wY_rename_25 post (nI nc) (nI nm) (nI nr) ypl ynd ymd ynh ylv ybt ydp yst yot yen fu y fc br (oF pa) ups yow yma (nF hm) (nF na) (nF ln) (nF op) fs sc (nF rk) rc rn yil ynu ynn yfa yvm yvl yvh ypu := fun hh => by
        have hiff : ∀ f, sn_ki nr rc rn hm na (ynh ||| ylv) R (i + 1) f ↔ sn_ki nr rc rn hm na (ynh ||| ylv) R i f := fun f =>
          ⟨fun ⟨m, a, b, c, d⟩ => by
            by_cases w : m = i
            · rw [w] at b d; exact (hh b d).elim
            · exact ⟨m, by omega, b, c, d⟩, fun ⟨m, a, b⟩ => ⟨m, by omega, b⟩⟩
        exact nm_r (nI_1 i) (ih (i + 1) ynn (by omega) (by omega) (fun f hf' => by rw [hiff f]; exact h1 f hf'))
      rw [nI_clamp (n := i) (by omega), nF_a, hfa i h, nI_clamp (n := R i) (by omega)]
      have hvi : vp_in (nI i) 30 := vp_in_nI (by omega) (by decide)
      refine sy_remains (by omega) (fun hs => hskip (fun z => absurd z hs)) (fun hs => sy_isRuled (ks := 2) M h10 U h (by decide) (fun hn => hskip (fun _ ⟨r, r1, r2, r3⟩ => hn ⟨r, r1, U.2 r r1, r2, r3⟩)) (fun ⟨r, r1, _, r2, r3⟩ => ⟨hvi, hvi, vp_in_nI (by omega) (by decide), nm_e (nm_r (nI_1 i) ?_)⟩))
      have hkm : sn_km nr rc rn hm na i := ⟨r, r1, r2, r3⟩
      have hiff : ∀ f, sn_ki nr rc rn hm na (ynh ||| ylv) R (i + 1) f ↔ sn_ki nr rc rn hm na (ynh ||| ylv) R i f ∨ f = R i := fun f =>
        ⟨fun ⟨m, a, b, c, d⟩ => by
          by_cases w : m = i
          · rw [w] at c; exact Or.inr c.symm
          · exact Or.inl ⟨m, by omega, b, c, d⟩, fun z => z.elim (fun ⟨m, a, b⟩ => ⟨m, by omega, b⟩) (fun e => ⟨i, by omega, hs, e.symm, hkm⟩)⟩
      refine ih (i + 1) _ (by omega) (by omega) (fun f hf' => ?_)
      rw [hiff f]
      by_cases z : f = R i
      · rw [z, pk_us, hnm]
        exact ⟨fun _ => rfl, fun w => absurd (Or.inr rfl) w⟩
      · rw [pk_un z]
        exact ⟨fun w => (h1 f hf').1 (w.elim id (fun y => absurd y z)), fun w => (h1 f hf').2 (fun y => w (Or.inl y))⟩
theorem sy_rename2 {post : SY → Prop} (C : sp_cls nc fc pa ups) (M : sp_mth nc nm fc hm na ln br dc) (U : sp_rul nr rk) (hfa : ∀ m, m < nm → yfa m = nI (R m)) (HR : sf_R nc nm ups hm na ynd (ynh ||| ylv) R) (HN : sn_sp nc nm nr ups rc rn hm na ynd (ynh ||| ylv) R nam)
    (K : ∀ ynn : Nat → Int32, (∀ f, f < nm → bt (ynh ||| ylv) f = true → R f = f → ynn f = oI (nam f)) → post ((nI nc), (nI nm), (nI nr), ypl, ynd, ymd, ynh, ylv, ybt, ydp, yst, yot, yen, fc, br, (oF pa), ups, yow, yma, (nF hm), (nF na), (nF ln), (nF op), fs, sc, (nF rk), rc, rn, yil, ynu, ynn, yfa, yvm, yvl, yvh, ypu)) :
    ∀ fuel i (ynn : Nat → Int32), i ≤ nm → nm - i < fuel → (∀ m, m < i → ynn m = -1) → wY_rename_2 post (nI nc) (nI nm) (nI nr) ypl ynd ymd ynh ylv ybt ydp yst yot yen fuel (nI i) fc br (oF pa) ups yow yma (nF hm) (nF na) (nF ln) (nF op) fs sc (nF rk) rc rn yil ynu ynn yfa yvm yvl yvh ypu := by
  intro fuel
  induction fuel with
  | zero => intro i _ _ h; omega
  | succ fu ih =>
    intro i ynn hi hf h1
    have h30 := M.1
    rw [wY_rename_2]
    refine pk_le nm i (fun h => ⟨nm + 1, ?_⟩) (fun h => ⟨vp_in_nI (by omega) (by decide), ?_⟩)
    · rw [← nI_0]
      exact sy_rename25 C M U hfa HR HN K (nm + 1) 0 ynn (by omega) (by omega) (fun f hf' => ⟨fun ⟨m, a, _⟩ => by omega, fun _ => h1 f (by omega)⟩)
    · rw [nI_clamp (n := i) (by omega)]
      refine nm_e (nm_r (nI_1 i) (ih (i + 1) _ (by omega) (by omega) (fun m hm' => ?_)))
      by_cases z : m = i
      · rw [z, pk_us]
      · rw [pk_un z]; exact h1 m (by omega)
theorem sy_rename {post : SY → Prop} (C : sp_cls nc fc pa ups) (M : sp_mth nc nm fc hm na ln br dc) (U : sp_rul nr rk) (hfa : ∀ m, m < nm → yfa m = nI (R m)) (HR : sf_R nc nm ups hm na ynd (ynh ||| ylv) R) (HN : sn_sp nc nm nr ups rc rn hm na ynd (ynh ||| ylv) R nam)
    (K : ∀ ynn : Nat → Int32, (∀ f, f < nm → bt (ynh ||| ylv) f = true → R f = f → ynn f = oI (nam f)) → post ((nI nc), (nI nm), (nI nr), ypl, ynd, ymd, ynh, ylv, ybt, ydp, yst, yot, yen, fc, br, (oF pa), ups, yow, yma, (nF hm), (nF na), (nF ln), (nF op), fs, sc, (nF rk), rc, rn, yil, ynu, ynn, yfa, yvm, yvl, yvh, ypu)) : wpY_rename post ((nI nc), (nI nm), (nI nr), ypl, ynd, ymd, ynh, ylv, ybt, ydp, yst, yot, yen, fc, br, (oF pa), ups, yow, yma, (nF hm), (nF na), (nF ln), (nF op), fs, sc, (nF rk), rc, rn, yil, ynu, ynn, yfa, yvm, yvl, yvh, ypu) :=
  ⟨nm + 1, sy_rename2 C M U hfa HR HN K (nm + 1) 0 ynn (by omega) (by omega) (fun m hm' => by omega)⟩
end
end
section
/-! what is built: one instruction -/
def se_gr (ln : Nat → Nat) (tg : Nat → Option Nat) (i : Nat) : Nat := match tg i with
  | none => 1
  | some t => 1 + ln t
def se_pos (ln : Nat → Nat) (tg : Nat → Option Nat) (m : Nat) : Nat → Nat
  | 0 => 0
  | k + 1 => se_pos ln tg m k + se_gr ln tg (6 * m + k)
def se_sk (ln op : Nat → Nat) (tg : Nat → Option Nat) (m k : Nat) : Nat := if op (6 * m + k) = 4 ∧ k + 1 < ln m then se_gr ln tg (6 * m + (k + 1)) else 0
/-- the class of an instruction, by its new number -/
def se_hc (op cl : Nat → Nat) (nw : Nat → Option Nat) (i : Nat) : Option Nat := if op i = 0 ∨ op i = 5 then none else nw (cl i)
section
variable {nc nm nr : Nat} {pa : Nat → Option Nat} {hm na ln op rk cl nn : Nat → Nat} {fc ups br ic ii fs sc rc rn : Nat → Int32} {dc fd : Nat → Nat → Option Nat}
variable {xnd xmd xnh xlv xq xs xbt xft xdp xst xss xpt xtr xsm : Int32} {xfs xdc xfd xqu xwt xsi xtg xnw xfa xsg xnn xtk xrl bop bcl bin bsk bme bli bou xnf xfm xfl xfh xou xem xel : Nat → Int32}
variable {ypl ynd ymd ynh ylv ybt ydp yst yot yen : Int32} {yow yma yil ynu ynn yfa yvm yvl yvh ypu : Nat → Int32}
variable {tg nw : Nat → Option Nat}
theorem sx_set168 {post : SX → Prop} {b m k sk : Nat} (hb : b < 720) (hm' : m < 128) (hk : k < 128) (hs : sk < 128)
    (p : post ((nI nc), (nI nm), (nI nr), xnd, xmd, xnh, xlv, xq, xs, xbt, xft, xdp, xst, xss, xpt, xtr, xsm, fc, (oF pa), xfs, ups, (nF hm), (nF na), br, (nF ln), (nF op), ic, ii, xdc, xfd, (nF rk), rc, rn, xqu, xwt, xsi, xtg, xnw, xfa, xsg, xnn, xtk, xrl, bop, bcl, bin, (upd bsk b (nI sk)), (upd bme b (nI m)), (upd bli b (nI k)), (upd bou b (-1)), xnf, xfm, xfl, xfh, xou, xem, xel)) : wX_set_168 post (nI b) (nI m) (nI k) (nI sk) (nI b) (nI nc) (nI nm) (nI nr) xnd xmd xnh xlv xq xs xbt xft xdp xst xss xpt xtr xsm fc (oF pa) xfs ups (nF hm) (nF na) br (nF ln) (nF op) ic ii xdc xfd (nF rk) rc rn xqu xwt xsi xtg xnw xfa xsg xnn xtk xrl bop bcl bin bsk bme bli bou xnf xfm xfl xfh xou xem xel := by
  have hv : vp_in (nI b) 720 := vp_in_nI hb (by decide)
  unfold wX_set_168
  rw [nI_clamp (n := b) (by omega), sd_vbb hm', sd_vbb hk, sd_vbb hs, sd_vbm]
  exact ⟨hv, nm_e ⟨hv, nm_e ⟨hv, nm_e ⟨hv, nm_e p⟩⟩⟩⟩
theorem sx_set120 {post : SX → Prop} {b m k : Nat} {o : Option Nat} (M : sp_mth nc nm fc hm na ln br dc) (hb : b < 720) (hm' : m < nm) (hk : k < ln m) (ho : op (6 * m + k) < 6) (hn : k + 1 < ln m → o = tg (6 * m + (k + 1))) (ht : ∀ t, o = some t → t < nm)
    (p : post ((nI nc), (nI nm), (nI nr), xnd, xmd, xnh, xlv, xq, xs, xbt, xft, xdp, xst, xss, xpt, xtr, xsm, fc, (oF pa), xfs, ups, (nF hm), (nF na), br, (nF ln), (nF op), ic, ii, xdc, xfd, (nF rk), rc, rn, xqu, xwt, xsi, xtg, xnw, xfa, xsg, xnn, xtk, xrl, bop, bcl, bin, (upd bsk b (nI (se_sk ln op tg m k))), (upd bme b (nI m)), (upd bli b (nI k)), (upd bou b (-1)), xnf, xfm, xfl, xfh, xou, xem, xel)) : wX_set_120 post (nI b) (nI m) (nI k) (nI (op (6 * m + k))) (oI o) (nI nc) (nI nm) (nI nr) xnd xmd xnh xlv xq xs xbt xft xdp xst xss xpt xtr xsm fc (oF pa) xfs ups (nF hm) (nF na) br (nF ln) (nF op) ic ii xdc xfd (nF rk) rc rn xqu xwt xsi xtg xnw xfa xsg xnn xtk xrl bop bcl bin bsk bme bli bou xnf xfm xfl xfh xou xem xel := by
  have h30 := M.1
  have hl := (M.2.1 m hm').2.2.1
  unfold wX_set_120
  refine pk_eq (op (6 * m + k)) 4 (fun o4 => ⟨vp_in_nI (by omega) (by decide), ?_⟩) (fun o4 => ?_)
  · rw [nI_clamp (n := m) (by omega), nF_a, nI_1]
    refine pk_eq (k + 1) (ln m) (fun e => ?_) (fun e => ?_)
    · have es : se_sk ln op tg m k = 0 := if_neg (by omega)
      rw [es] at p
      exact sx_set168 hb (by omega) (by omega) (by decide) p
    · have en := hn (by omega)
      have es : se_sk ln op tg m k = se_gr ln tg (6 * m + (k + 1)) := if_pos ⟨o4, by omega⟩
      rw [es] at p
      unfold se_gr at p
      rw [← en] at p
      cases o with
      | none => exact br_f (by decide) (sx_set168 hb (by omega) (by omega) (by decide : 1 < 128) p)
      | some t =>
        have htm := ht t rfl
        have htl := (M.2.1 t htm).2.2.1
        rw [oI_s, nI_clamp (n := t) (by omega), nF_a, sd_1a]
        exact br_t (nI_pos' (by omega)) ⟨vp_in_nI (by omega) (by decide), sx_set168 hb (by omega) (by omega) (by omega) p⟩
  · have es : se_sk ln op tg m k = 0 := if_neg (fun z => o4 z.1)
    rw [es] at p
    exact sx_set168 hb (by omega) (by omega) (by decide) p
theorem sx_set94 {post : SX → Prop} {b m k : Nat} {z : Int32} (M : sp_mth nc nm fc hm na ln br dc) (T : ∀ j, j < 6 * nm → xtg j = oI (tg j) ∧ ∀ t, tg j = some t → t < nm) (hb : b < 720) (hm' : m < nm) (hk : k < ln m) (ho : op (6 * m + k) < 6)
    (p : post ((nI nc), (nI nm), (nI nr), xnd, xmd, xnh, xlv, xq, xs, xbt, xft, xdp, xst, xss, xpt, xtr, xsm, fc, (oF pa), xfs, ups, (nF hm), (nF na), br, (nF ln), (nF op), ic, ii, xdc, xfd, (nF rk), rc, rn, xqu, xwt, xsi, xtg, xnw, xfa, xsg, xnn, xtk, xrl, bop, bcl, (upd bin b z), (upd bsk b (nI (se_sk ln op tg m k))), (upd bme b (nI m)), (upd bli b (nI k)), (upd bou b (-1)), xnf, xfm, xfl, xfh, xou, xem, xel)) : wX_set_94 post (nI b) (nI (6 * m + k)) (nI m) (nI k) (nI (op (6 * m + k))) z (nI b) (nI nc) (nI nm) (nI nr) xnd xmd xnh xlv xq xs xbt xft xdp xst xss xpt xtr xsm fc (oF pa) xfs ups (nF hm) (nF na) br (nF ln) (nF op) ic ii xdc xfd (nF rk) rc rn xqu xwt xsi xtg xnw xfa xsg xnn xtk xrl bop bcl bin bsk bme bli bou xnf xfm xfl xfh xou xem xel := by
  have h30 := M.1
  have hl := (M.2.1 m hm').2.2.1
  unfold wX_set_94
  rw [nI_clamp (n := b) (by omega), nI_clamp (n := m) (by omega), nF_a, nI_1 k, nI_1 (6 * m + k), nI_clamp (n := 6 * m + k + 1) (by omega)]
  refine ⟨vp_in_nI hb (by decide), nm_e ⟨vp_in_nI (by omega) (by decide), pk_le (ln m) (k + 1) (fun h => ?_) (fun h => ⟨vp_in_nI (by omega) (by decide), ?_⟩)⟩⟩
  · exact sx_set120 (o := none) M hb hm' hk ho (fun z => by omega) (fun t e => by cases e) p
  · obtain ⟨T1, T2⟩ := T (6 * m + k + 1) (by omega)
    rw [T1]
    exact sx_set120 M hb hm' hk ho (fun _ => rfl) T2 p
theorem sx_set {post : SX → Prop} {b m k : Nat} (C : sp_cls nc fc pa ups) (M : sp_mth nc nm fc hm na ln br dc) (N : sp_ins nm ln op cl nn ic ii fs sc) (F : sp_fd nc pa fc ups hm dc fd) (W : sp_ok nc nm fc br ln op cl nn fd) (A : ∀ a b, a < nc → b < 10 → xfd (10 * a + b) = oI (fd a b)) (T : ∀ j, j < 6 * nm → xtg j = oI (tg j) ∧ ∀ t, tg j = some t → t < nm)
    (HW : ∀ c, c < nc → xnw c = oI (nw c) ∧ ∀ k, nw c = some k → k < 128) (hb : b < 720) (hm' : m < nm) (hk : k < ln m)
    (K : ∀ z : Int32, (op (6 * m + k) ≠ 2 → op (6 * m + k) ≠ 3 → z = ii (6 * m + k)) → (op (6 * m + k) = 2 ∨ op (6 * m + k) = 3 → ∀ g, fd (cl (6 * m + k)) (nn (6 * m + k)) = some g → z = xnn g) → 
      post ((nI nc), (nI nm), (nI nr), xnd, xmd, xnh, xlv, xq, xs, xbt, xft, xdp, xst, xss, xpt, xtr, xsm, fc, (oF pa), xfs, ups, (nF hm), (nF na), br, (nF ln), (nF op), ic, ii, xdc, xfd, (nF rk), rc, rn, xqu, xwt, xsi, xtg, xnw, xfa, xsg, xnn, xtk, xrl, (upd bop b (nI (op (6 * m + k)))), (upd bcl b (oI (se_hc op cl nw (6 * m + k)))), (upd bin b z), (upd bsk b (nI (se_sk ln op tg m k))), (upd bme b (nI m)), (upd bli b (nI k)), (upd bou b (-1)), xnf, xfm, xfl, xfh, xou, xem, xel)) : wpX_set post ((nI nc), (nI nm), (nI nr), xnd, xmd, xnh, xlv, xq, xs, xbt, xft, xdp, xst, xss, xpt, xtr, xsm, fc, (oF pa), xfs, ups, (nF hm), (nF na), br, (nF ln), (nF op), ic, ii, xdc, xfd, (nF rk), rc, rn, xqu, xwt, xsi, xtg, xnw, xfa, xsg, xnn, xtk, xrl, bop, bcl, bin, bsk, bme, bli, bou, xnf, xfm, xfl, xfh, xou, xem, xel) (nI b) (nI (6 * m + k)) (nI m) (nI k) := by
  have h10 := C.1
  have h30 := M.1
  have hl := (M.2.1 m hm').2.2.1
  obtain ⟨n1, n2, n3, n4, n5, n6⟩ := N m k hm' hk
  have hi : 6 * m + k < 180 := by omega
  have hv : vp_in (nI (6 * m + k)) 180 := vp_in_nI hi (by decide)
  have hvb : vp_in (nI b) 720 := vp_in_nI hb (by decide)
  have h46 : ∀ o : Option Nat, o = se_hc op cl nw (6 * m + k) → (∀ j, o = some j → j < 128) → wX_set_46 post (nI b) (nI (6 * m + k)) (nI m) (nI k) (nI (op (6 * m + k))) (oI o) (nI b) (nI nc) (nI nm) (nI nr) xnd xmd xnh xlv xq xs xbt xft xdp xst xss xpt xtr xsm fc (oF pa) xfs ups (nF hm) (nF na) br (nF ln) (nF op) ic ii xdc xfd (nF rk) rc rn xqu xwt xsi xtg xnw xfa xsg xnn xtk xrl (upd bop b (nI (op (6 * m + k)))) bcl bin bsk bme bli bou xnf xfm xfl xfh xou xem xel := by
    intro o eo hob
    have h64 : op (6 * m + k) = 2 ∨ op (6 * m + k) = 3 → wX_set_64 post (nI b) (nI (6 * m + k)) (nI m) (nI k) (nI (op (6 * m + k))) (nI b) (nI nc) (nI nm) (nI nr) xnd xmd xnh xlv xq xs xbt xft xdp xst xss xpt xtr xsm fc (oF pa) xfs ups (nF hm) (nF na) br (nF ln) (nF op) ic ii xdc xfd (nF rk) rc rn xqu xwt xsi xtg xnw xfa xsg xnn xtk xrl (upd bop b (nI (op (6 * m + k)))) (upd bcl b (oI (se_hc op cl nw (6 * m + k)))) bin bsk bme bli bou xnf xfm xfl xfh xou xem xel := by
      intro o23
      obtain ⟨e1, e2, e3⟩ := n4 (by omega) (by omega)
      obtain ⟨f1, f2, f3⟩ := n5 o23
      have hc := sp_okc W hm' hk (by omega) (by omega)
      obtain ⟨g, hg, _⟩ := sp_okf W hm' hk o23
      have hgm := (sp_sound C M F _ _ g hc hg).1
      unfold wX_set_64
      rw [nI_clamp (n := 6 * m + k) (by omega), e1, f1]
      refine ⟨hv, hv, sx_found h10 A hc f3 ?_⟩
      rw [hg, oI_s, nI_clamp (n := g) (by omega)]
      refine ⟨vp_in_nI (by omega) (by decide), sx_set94 M T hb hm' hk n1 (K _ (fun a b => by omega) (fun _ g' hg' => ?_))⟩
      rw [hg] at hg'; cases hg'; rfl
    unfold wX_set_46
    rw [nI_clamp (n := b) (by omega), sd_vo hob, eo, nI_clamp (n := 6 * m + k) (by omega)]
    exact ⟨hvb, nm_e (pk_eq (op (6 * m + k)) 2 (fun o2 => h64 (Or.inl o2)) (fun o2 => pk_eq (op (6 * m + k)) 3 (fun o3 => h64 (Or.inr o3)) (fun o3 => ⟨hv, sx_set94 M T hb hm' hk n1 (K _ (fun _ _ => rfl) (fun z => by omega))⟩)))⟩
  unfold wpX_set
  dsimp only
  rw [nI_clamp (n := 6 * m + k) (by omega), nI_clamp (n := b) (by omega), nF_a]
  refine And.intro hv (nm_e (And.intro hvb ?_))
  rw [sd_vbb (by omega)]
  refine nm_e (And.intro hv ?_)
  by_cases h0 : op (6 * m + k) = 0 ∨ op (6 * m + k) = 5
  · have e : ic (6 * m + k) = -1 := h0.elim (fun z => (n2 z).1) n3
    rw [e]
    exact br_f (by decide) (h46 none (by unfold se_hc; rw [if_pos h0]) (fun j z => by cases z))
  · obtain ⟨e1, e2, e3⟩ := n4 (fun z => h0 (Or.inl z)) (fun z => h0 (Or.inr z))
    have hc := sp_okc W hm' hk (fun z => h0 (Or.inl z)) (fun z => h0 (Or.inr z))
    obtain ⟨w1, w2⟩ := HW (cl (6 * m + k)) hc
    rw [e1, nI_clamp (n := cl (6 * m + k)) (by omega), w1]
    exact br_t (nI_pos' (by omega)) ⟨hv, vp_in_nI (by omega) (by decide), h46 _ (by unfold se_hc; rw [if_neg h0]) w2⟩
end
end
section
/-! what is built: the rows of instructions -/
section
variable (ln op cl nn : Nat → Nat) (ii : Nat → Int32) (fd : Nat → Nat → Option Nat) (tg nw : Nat → Option Nat) (xnn : Nat → Int32)
/-- the instruction that comes of line k of method m, at b -/
def se_head (m k b : Nat) (bop bcl bin bsk bme bli bou : Nat → Int32) : Prop :=
  bop b = nI (match tg (6 * m + k) with | none => op (6 * m + k) | some _ => 6) ∧
  bcl b = oI (if op (6 * m + k) = 3 ∧ tg (6 * m + k) ≠ none then none else se_hc op cl nw (6 * m + k)) ∧
  (tg (6 * m + k) ≠ none → bin b = 0) ∧ (tg (6 * m + k) = none → op (6 * m + k) ≠ 2 → op (6 * m + k) ≠ 3 → bin b = ii (6 * m + k)) ∧
  (tg (6 * m + k) = none → op (6 * m + k) = 2 ∨ op (6 * m + k) = 3 → ∀ g, fd (cl (6 * m + k)) (nn (6 * m + k)) = some g → bin b = xnn g) ∧
  bsk b = nI (se_sk ln op tg m k) ∧ bme b = nI m ∧ bli b = nI k ∧ bou b = -1
/-- line j of method t, done in place of a line k -/
def se_inn (t j k b : Nat) (bop bcl bin bme bli bou : Nat → Int32) : Prop :=
  bop b = nI (op (6 * t + j)) ∧ bcl b = -1 ∧ bin b = ii (6 * t + j) ∧ bme b = nI t ∧ bli b = nI j ∧ bou b = nI k
def se_row (m k : Nat) (bop bcl bin bsk bme bli bou : Nat → Int32) : Prop :=
  se_head ln op cl nn ii fd tg nw xnn m k (24 * m + se_pos ln tg m k) bop bcl bin bsk bme bli bou ∧
  ∀ t j, tg (6 * m + k) = some t → j < ln t → se_inn op ii t j k (24 * m + se_pos ln tg m k + 1 + j) bop bcl bin bme bli bou
end
/-- alike below B -/
def se_ag (B : Nat) (o c i s m l u o' c' i' s' m' l' u' : Nat → Int32) : Prop := ∀ x, x < B → o' x = o x ∧ c' x = c x ∧ i' x = i x ∧ s' x = s x ∧ m' x = m x ∧ l' x = l x ∧ u' x = u x
theorem se_ag_r {B : Nat} {o c i s m l u : Nat → Int32} : se_ag B o c i s m l u o c i s m l u := fun _ _ => ⟨rfl, rfl, rfl, rfl, rfl, rfl, rfl⟩
theorem se_ag_t {B : Nat} {o c i s m l u o' c' i' s' m' l' u' o2 c2 i2 s2 m2 l2 u2 : Nat → Int32} (h : se_ag B o c i s m l u o' c' i' s' m' l' u') (h' : se_ag B o' c' i' s' m' l' u' o2 c2 i2 s2 m2 l2 u2) : se_ag B o c i s m l u o2 c2 i2 s2 m2 l2 u2 := by
  intro x hx
  obtain ⟨a1, a2, a3, a4, a5, a6, a7⟩ := h x hx
  obtain ⟨b1, b2, b3, b4, b5, b6, b7⟩ := h' x hx
  exact ⟨b1.trans a1, b2.trans a2, b3.trans a3, b4.trans a4, b5.trans a5, b6.trans a6, b7.trans a7⟩
theorem se_ag_m {A B : Nat} {o c i s m l u o' c' i' s' m' l' u' : Nat → Int32} (hA : A ≤ B) (h : se_ag B o c i s m l u o' c' i' s' m' l' u') : se_ag A o c i s m l u o' c' i' s' m' l' u' := fun x hx => h x (by omega)
section
variable {nc nm nr : Nat} {pa : Nat → Option Nat} {hm na ln op rk cl nn : Nat → Nat} {fc ups br ic ii fs sc rc rn : Nat → Int32} {dc fd : Nat → Nat → Option Nat}
variable {xnd xmd xnh xlv xq xs xbt xft xdp xst xss xpt xtr xsm : Int32} {xfs xdc xfd xqu xwt xsi xtg xnw xfa xsg xnn xtk xrl bop bcl bin bsk bme bli bou xnf xfm xfl xfh xou xem xel : Nat → Int32}
variable {ypl ynd ymd ynh ylv ybt ydp yst yot yen : Int32} {yow yma yil ynu ynn yfa yvm yvl yvh ypu : Nat → Int32}
variable {tg nw : Nat → Option Nat}
theorem se_hT {m k b B : Nat} {bop' bcl' bin' bsk' bme' bli' bou' : Nat → Int32} (h : se_head ln op cl nn ii fd tg nw xnn m k b bop bcl bin bsk bme bli bou) (ha : se_ag B bop bcl bin bsk bme bli bou bop' bcl' bin' bsk' bme' bli' bou') (hB : b < B) : se_head ln op cl nn ii fd tg nw xnn m k b bop' bcl' bin' bsk' bme' bli' bou' := by
  obtain ⟨a1, a2, a3, a4, a5, a6, a7⟩ := ha b hB
  unfold se_head
  rw [a1, a2, a3, a4, a5, a6, a7]
  exact h
theorem se_iT {t j k b B : Nat} {bop' bcl' bin' bsk' bme' bli' bou' : Nat → Int32} (h : se_inn op ii t j k b bop bcl bin bme bli bou) (ha : se_ag B bop bcl bin bsk bme bli bou bop' bcl' bin' bsk' bme' bli' bou') (hB : b < B) : se_inn op ii t j k b bop' bcl' bin' bme' bli' bou' := by
  obtain ⟨a1, a2, a3, a4, a5, a6, a7⟩ := ha b hB
  unfold se_inn
  rw [a1, a2, a3, a5, a6, a7]
  exact h
theorem se_rT {m k B : Nat} {bop' bcl' bin' bsk' bme' bli' bou' : Nat → Int32} (h : se_row ln op cl nn ii fd tg nw xnn m k bop bcl bin bsk bme bli bou) (ha : se_ag B bop bcl bin bsk bme bli bou bop' bcl' bin' bsk' bme' bli' bou') (hB : 24 * m + se_pos ln tg m (k + 1) ≤ B) : se_row ln op cl nn ii fd tg nw xnn m k bop' bcl' bin' bsk' bme' bli' bou' := by
  have hp : se_pos ln tg m (k + 1) = se_pos ln tg m k + se_gr ln tg (6 * m + k) := rfl
  have hg : 1 ≤ se_gr ln tg (6 * m + k) := by unfold se_gr; split <;> omega
  refine ⟨se_hT h.1 ha (by omega), fun t j ht hj => se_iT (h.2 t j ht hj) ha ?_⟩
  have : se_gr ln tg (6 * m + k) = 1 + ln t := by unfold se_gr; rw [ht]
  omega
theorem se_ps (m k : Nat) : se_pos ln tg m (k + 1) = se_pos ln tg m k + se_gr ln tg (6 * m + k) := rfl
theorem se_mono {m : Nat} : ∀ d k, se_pos ln tg m k ≤ se_pos ln tg m (k + d)
  | 0, _ => Nat.le_refl _
  | d + 1, k => Nat.le_trans (se_mono d k) (by show _ ≤ se_pos ln tg m (k + d) + _; omega)
theorem se_mono' {m a b : Nat} (h : a ≤ b) : se_pos ln tg m a ≤ se_pos ln tg m b := by
  obtain ⟨d, rfl⟩ : ∃ d, b = a + d := ⟨b - a, by omega⟩
  exact se_mono d a
theorem se_4 {m : Nat} (h : ∀ k, k < ln m → se_gr ln tg (6 * m + k) ≤ 4) : ∀ k, k ≤ ln m → se_pos ln tg m k ≤ 4 * k
  | 0, _ => Nat.le_refl _
  | k + 1, hk => by
    have h1 := se_4 h k (by omega)
    have h2 := h k (by omega)
    rw [se_ps]; omega
theorem sx_emit110 {post : SX → Prop} {J4 : Int32 → Int32 → Int32 → Int32 → Int32 → Int32 → Int32 → Int32 → Int32 → Int32 → Int32 → Int32 → Int32 → Int32 → Int32 → Int32 → Int32 → Int32 → Int32 → (Nat → Int32) → (Nat → Int32) → (Nat → Int32) → (Nat → Int32) → (Nat → Int32) → (Nat → Int32) → (Nat → Int32) → (Nat → Int32) → (Nat → Int32) → (Nat → Int32) → (Nat → Int32) → (Nat → Int32) → (Nat → Int32) → (Nat → Int32) → (Nat → Int32) → (Nat → Int32) → (Nat → Int32) → (Nat → Int32) → (Nat → Int32) → (Nat → Int32) → (Nat → Int32) → (Nat → Int32) → (Nat → Int32) → (Nat → Int32) → (Nat → Int32) → (Nat → Int32) → (Nat → Int32) → (Nat → Int32) → (Nat → Int32) → (Nat → Int32) → (Nat → Int32) → (Nat → Int32) → (Nat → Int32) → (Nat → Int32) → (Nat → Int32) → (Nat → Int32) → (Nat → Int32) → (Nat → Int32) → (Nat → Int32) → (Nat → Int32) → Prop} {m k t : Nat} (C : sp_cls nc fc pa ups) (M : sp_mth nc nm fc hm na ln br dc) (N : sp_ins nm ln op cl nn ic ii fs sc) (F : sp_fd nc pa fc ups hm dc fd) (W : sp_ok nc nm fc br ln op cl nn fd) (A : ∀ a b, a < nc → b < 10 → xfd (10 * a + b) = oI (fd a b)) (T : ∀ j, j < 6 * nm → xtg j = oI (tg j) ∧ ∀ t, tg j = some t → t < nm ∧ sp_sh ln op t)
    (HW : ∀ c, c < nc → xnw c = oI (nw c) ∧ ∀ k, nw c = some k → k < 128) (hm' : m < nm) (hk : k < ln m) (ht : t < nm) (hsh : sp_sh ln op t) (hpos : 24 * m + se_pos ln tg m k + 1 + ln t ≤ 24 * m + 24) {o0 c0 i0 s0 m0 l0 u0 : Nat → Int32}
    (K : ∀ bop bcl bin bsk bme bli bou : Nat → Int32, se_ag (24 * m + se_pos ln tg m k + 1) o0 c0 i0 s0 m0 l0 u0 bop bcl bin bsk bme bli bou → (∀ j, j < ln t → se_inn op ii t j k (24 * m + se_pos ln tg m k + 1 + j) bop bcl bin bme bli bou) → J4 (nI (se_pos ln tg m k + 1 + ln t)) (nI (k + 1)) (nI nc) (nI nm) (nI nr) xnd xmd xnh xlv xq xs xbt xft xdp xst xss xpt xtr xsm fc (oF pa) xfs ups (nF hm) (nF na) br (nF ln) (nF op) ic ii xdc xfd (nF rk) rc rn xqu xwt xsi xtg xnw xfa xsg xnn xtk xrl bop bcl bin bsk bme bli bou xnf xfm xfl xfh xou xem xel) :
    ∀ fuel j (bop bcl bin bsk bme bli bou : Nat → Int32), j ≤ ln t → ln t - j < fuel → se_ag (24 * m + se_pos ln tg m k + 1) o0 c0 i0 s0 m0 l0 u0 bop bcl bin bsk bme bli bou → (∀ x, x < j → se_inn op ii t x k (24 * m + se_pos ln tg m k + 1 + x) bop bcl bin bme bli bou) → wX_emit_110 post J4 (nI m) (nI k) (nI t) fuel (nI (se_pos ln tg m k + 1 + j)) (nI j) (nI nc) (nI nm) (nI nr) xnd xmd xnh xlv xq xs xbt xft xdp xst xss xpt xtr xsm fc (oF pa) xfs ups (nF hm) (nF na) br (nF ln) (nF op) ic ii xdc xfd (nF rk) rc rn xqu xwt xsi xtg xnw xfa xsg xnn xtk xrl bop bcl bin bsk bme bli bou xnf xfm xfl xfh xou xem xel := by
  intro fuel
  induction fuel with
  | zero => intro j _ _ _ _ _ _ _ _ h; omega
  | succ fu ih =>
    intro j bop bcl bin bsk bme bli bou hj hf hag hin
    have h30 := M.1
    have hl := (M.2.1 m hm').2.2.1
    rw [wX_emit_110]
    dsimp only
    rw [nI_clamp (n := t) (by omega), nF_a, sd_x24, nI_add, sd_x6, nI_add]
    refine ⟨vp_in_nI (by omega) (by decide), pk_le (ln t) j (fun h => ?_) (fun h => ?_)⟩
    · have e : j = ln t := by omega
      rw [e]
      rw [e] at hin
      exact nm_r (nI_1 k) (K _ _ _ _ _ _ _ hag hin)
    · have hb : 24 * m + (se_pos ln tg m k + 1 + j) < 720 := by omega
      have o05 := hsh.2 j h
      refine sx_set C M N F W A (fun j hj => ⟨(T j hj).1, fun t e => ((T j hj).2 t e).1⟩) HW hb ht h (fun z hz1 hz2 => ?_)
      dsimp only
      rw [nI_clamp (n := 24 * m + (se_pos ln tg m k + 1 + j)) (by omega), sd_vbb (by omega)]
      refine nm_r (nI_1 _) ⟨vp_in_nI hb (by decide), nm_e (nm_r (nI_1 j) ?_)⟩
      have eb : 24 * m + (se_pos ln tg m k + 1 + j) = 24 * m + se_pos ln tg m k + 1 + j := by omega
      have ez : z = ii (6 * t + j) := hz1 (by omega) (by omega)
      have ehc : se_hc op cl nw (6 * t + j) = none := if_pos o05
      have hag2 : ∀ B, B ≤ 24 * m + (se_pos ln tg m k + 1 + j) → se_ag B bop bcl bin bsk bme bli bou (upd bop (24 * m + (se_pos ln tg m k + 1 + j)) (nI (op (6 * t + j)))) (upd bcl (24 * m + (se_pos ln tg m k + 1 + j)) (oI (se_hc op cl nw (6 * t + j)))) (upd bin (24 * m + (se_pos ln tg m k + 1 + j)) z) (upd bsk (24 * m + (se_pos ln tg m k + 1 + j)) (nI (se_sk ln op tg t j))) (upd bme (24 * m + (se_pos ln tg m k + 1 + j)) (nI t)) (upd bli (24 * m + (se_pos ln tg m k + 1 + j)) (nI j)) (upd (upd bou (24 * m + (se_pos ln tg m k + 1 + j)) (-1)) (24 * m + (se_pos ln tg m k + 1 + j)) (nI k)) := by
        intro B hB x hx
        have hne : x ≠ 24 * m + (se_pos ln tg m k + 1 + j) := by omega
        exact ⟨pk_un hne, pk_un hne, pk_un hne, pk_un hne, pk_un hne, pk_un hne, by rw [pk_un hne, pk_un hne]⟩
      refine ih (j + 1) _ _ _ _ _ _ _ (by omega) (by omega) (se_ag_t hag (hag2 _ (by omega))) (lt_s (fun x hx => se_iT (bsk := bsk) (hin x hx) (hag2 _ (Nat.le_refl _)) (by omega)) ?_)
      rw [← eb]
      exact ⟨pk_us, by rw [pk_us, ehc]; rfl, by rw [pk_us, ez], pk_us, pk_us, pk_us⟩
theorem sx_emit4 {post : SX → Prop} {m : Nat} (C : sp_cls nc fc pa ups) (M : sp_mth nc nm fc hm na ln br dc) (N : sp_ins nm ln op cl nn ic ii fs sc) (F : sp_fd nc pa fc ups hm dc fd) (W : sp_ok nc nm fc br ln op cl nn fd) (A : ∀ a b, a < nc → b < 10 → xfd (10 * a + b) = oI (fd a b)) (T : ∀ j, j < 6 * nm → xtg j = oI (tg j) ∧ ∀ t, tg j = some t → t < nm ∧ sp_sh ln op t)
    (HW : ∀ c, c < nc → xnw c = oI (nw c) ∧ ∀ k, nw c = some k → k < 128) (hm' : m < nm) (hlv : bt xlv m = true) {o0 c0 i0 s0 m0 l0 u0 : Nat → Int32}
    (K : ∀ bop bcl bin bsk bme bli bou : Nat → Int32, se_ag (24 * m) o0 c0 i0 s0 m0 l0 u0 bop bcl bin bsk bme bli bou → (∀ k, k < ln m → se_row ln op cl nn ii fd tg nw xnn m k bop bcl bin bsk bme bli bou) → post ((nI nc), (nI nm), (nI nr), xnd, xmd, xnh, xlv, xq, xs, xbt, xft, xdp, xst, xss, xpt, xtr, xsm, fc, (oF pa), xfs, ups, (nF hm), (nF na), br, (nF ln), (nF op), ic, ii, xdc, xfd, (nF rk), rc, rn, xqu, xwt, xsi, xtg, xnw, xfa, xsg, xnn, xtk, (upd xrl m (nI (se_pos ln tg m (ln m)))), bop, bcl, bin, bsk, bme, bli, bou, xnf, xfm, xfl, xfh, xou, xem, xel)) :
    ∀ fuel k (bop bcl bin bsk bme bli bou : Nat → Int32), k ≤ ln m → ln m - k < fuel → se_ag (24 * m) o0 c0 i0 s0 m0 l0 u0 bop bcl bin bsk bme bli bou → (∀ x, x < k → se_row ln op cl nn ii fd tg nw xnn m x bop bcl bin bsk bme bli bou) → wX_emit_4 post (nI m) fuel (nI (se_pos ln tg m k)) (nI k) (nI nc) (nI nm) (nI nr) xnd xmd xnh xlv xq xs xbt xft xdp xst xss xpt xtr xsm fc (oF pa) xfs ups (nF hm) (nF na) br (nF ln) (nF op) ic ii xdc xfd (nF rk) rc rn xqu xwt xsi xtg xnw xfa xsg xnn xtk xrl bop bcl bin bsk bme bli bou xnf xfm xfl xfh xou xem xel := by
  have h30 := M.1
  have hl := (M.2.1 m hm').2.2.1
  have hgr : ∀ k, k < ln m → se_gr ln tg (6 * m + k) ≤ 4 := by
    intro k hk
    unfold se_gr
    split
    · omega
    · rename_i t e
      have := ((T (6 * m + k) (by omega)).2 t e).2.1
      omega
  have h4 := se_4 hgr
  intro fuel
  induction fuel with
  | zero => intro k _ _ _ _ _ _ _ _ h; omega
  | succ fu ih =>
    intro k bop bcl bin bsk bme bli bou hk hf hag hrow
    have hpk := h4 k hk
    rw [wX_emit_4]
    dsimp only
    rw [nI_clamp (n := m) (by omega), nF_a, sd_x24, nI_add, sd_x6, nI_add]
    refine ⟨vp_in_nI (by omega) (by decide), pk_le (ln m) k (fun h => ⟨vp_in_nI (by omega) (by decide), ?_⟩) (fun h => ?_)⟩
    · have e : k = ln m := by omega
      rw [e] at hrow hpk
      rw [e, sd_vbb (by omega)]
      exact nm_e (K _ _ _ _ _ _ _ hag hrow)
    · refine xh_t hlv (br_f (by decide) (nm_e ⟨vp_in_nI (by omega) (by decide), ?_⟩))
      obtain ⟨T1, T2⟩ := T (6 * m + k) (by omega)
      have hpk1 := h4 (k + 1) h
      have hps := se_ps (ln := ln) (tg := tg) m k
      have hb : 24 * m + se_pos ln tg m k < 720 := by omega
      rw [nI_clamp (n := 6 * m + k) (by omega)]
      refine nm_r T1 (nm_r (nI_1 _) (nm_e ?_))
      have ho := (N m k hm' h).1
      refine sx_set C M N F W A (fun j hj => ⟨(T j hj).1, fun t e => ((T j hj).2 t e).1⟩) HW hb hm' h (fun z hz1 hz2 => ?_)
      dsimp only
      have hag2 : ∀ B, B ≤ 24 * m + se_pos ln tg m k → ∀ v1 v2 v3 v4 v5 v6 v7 w1 w2 w3, se_ag B bop bcl bin bsk bme bli bou (upd (upd bop (24 * m + se_pos ln tg m k) v1) (24 * m + se_pos ln tg m k) w1) (upd (upd bcl (24 * m + se_pos ln tg m k) v2) (24 * m + se_pos ln tg m k) w2) (upd (upd bin (24 * m + se_pos ln tg m k) v3) (24 * m + se_pos ln tg m k) w3) (upd bsk (24 * m + se_pos ln tg m k) v4) (upd bme (24 * m + se_pos ln tg m k) v5) (upd bli (24 * m + se_pos ln tg m k) v6) (upd bou (24 * m + se_pos ln tg m k) v7) := by
        intro B hB v1 v2 v3 v4 v5 v6 v7 w1 w2 w3 x hx
        have hne : x ≠ 24 * m + se_pos ln tg m k := by omega
        exact ⟨by rw [pk_un hne, pk_un hne], by rw [pk_un hne, pk_un hne], by rw [pk_un hne, pk_un hne], pk_un hne, pk_un hne, pk_un hne, pk_un hne⟩
      have huu : ∀ (a : Nat → Int32) b v, upd a b v = upd (upd a b v) b v := by
        intro a b v
        funext x
        by_cases z : x = b
        · rw [z, pk_us, pk_us]
        · rw [pk_un z, pk_un z, pk_un z]
      cases et : tg (6 * m + k) with
      | none =>
        refine br_f (by decide) (nm_r (nI_1 k) ?_)
        have eg : se_gr ln tg (6 * m + k) = 1 := by unfold se_gr; rw [et]
        rw [eg] at hps
        rw [← hps]
        refine ih (k + 1) _ _ _ _ _ _ _ (by omega) (by omega) (se_ag_t hag ?_) (lt_s (fun x hx => se_rT (hrow x hx) (B := 24 * m + se_pos ln tg m k) ?_ ?_) ?_)
        · rw [huu bop, huu bcl, huu bin]; exact hag2 _ (by omega) _ _ _ _ _ _ _ _ _ _
        · rw [huu bop, huu bcl, huu bin]; exact hag2 _ (Nat.le_refl _) _ _ _ _ _ _ _ _ _ _
        · have := se_mono' (ln := ln) (tg := tg) (m := m) (show x + 1 ≤ k by omega)
          omega
        · refine ⟨⟨?_, ?_, fun y => absurd et y, fun _ a b => ?_, fun _ a g hg => ?_, pk_us, pk_us, pk_us, pk_us⟩, fun t j e => by rw [et] at e; cases e⟩
          · rw [pk_us, et]
          · rw [pk_us, if_neg (fun y => y.2 et)]
          · rw [pk_us]; exact hz1 a b
          · rw [pk_us]; exact hz2 a g hg
      | some t =>
        obtain ⟨ht, hsh⟩ := T2 t et
        have h3 := hsh.1
        have eg : se_gr ln tg (6 * m + k) = 1 + ln t := by unfold se_gr; rw [et]
        rw [eg] at hps
        have hvb : vp_in (nI (24 * m + se_pos ln tg m k)) 720 := vp_in_nI hb (by decide)
        have key : ∀ bcl' : Nat → Int32, (∃ v w, bcl' = upd (upd bcl (24 * m + se_pos ln tg m k) v) (24 * m + se_pos ln tg m k) w) → bcl' (24 * m + se_pos ln tg m k) = oI (if op (6 * m + k) = 3 ∧ tg (6 * m + k) ≠ none then none else se_hc op cl nw (6 * m + k)) →
            ∃ n110, wX_emit_110 post (wX_emit_4 post (nI m) fu) (nI m) (nI k) (nI t) n110 (nI (se_pos ln tg m k + 1)) 0 (nI nc) (nI nm) (nI nr) xnd xmd xnh xlv xq xs xbt xft xdp xst xss xpt xtr xsm fc (oF pa) xfs ups (nF hm) (nF na) br (nF ln) (nF op) ic ii xdc xfd (nF rk) rc rn xqu xwt xsi xtg xnw xfa xsg xnn xtk xrl (upd (upd bop (24 * m + se_pos ln tg m k) (nI (op (6 * m + k)))) (24 * m + se_pos ln tg m k) (nI 6)) bcl' (upd (upd bin (24 * m + se_pos ln tg m k) z) (24 * m + se_pos ln tg m k) 0) (upd bsk (24 * m + se_pos ln tg m k) (nI (se_sk ln op tg m k))) (upd bme (24 * m + se_pos ln tg m k) (nI m)) (upd bli (24 * m + se_pos ln tg m k) (nI k)) (upd bou (24 * m + se_pos ln tg m k) (-1)) xnf xfm xfl xfh xou xem xel := by
          rintro bcl' ⟨v, w, rfl⟩ hbc
          refine ⟨ln t + 1, ?_⟩
          rw [← nI_0]
          refine sx_emit110 C M N F W A T HW hm' h ht hsh (by omega) (fun o1 c1 i1 s1 m1 l1 u1 hag3 hin => ?_) (ln t + 1) 0 _ _ _ _ _ _ _ (by omega) (by omega) se_ag_r (fun x hx => by omega)
          have e5 : se_pos ln tg m k + 1 + ln t = se_pos ln tg m (k + 1) := by omega
          rw [e5]
          refine ih (k + 1) _ _ _ _ _ _ _ (by omega) (by omega) (se_ag_t hag (se_ag_t (hag2 _ (by omega) _ _ _ _ _ _ _ _ _ _) (se_ag_m (by omega) hag3))) (lt_s (fun x hx => se_rT (hrow x hx) (B := 24 * m + se_pos ln tg m k) (se_ag_t (hag2 _ (Nat.le_refl _) _ _ _ _ _ _ _ _ _ _) (se_ag_m (by omega) hag3)) ?_) ⟨se_hT ?_ hag3 (by omega), fun t' j e => ?_⟩)
          · have := se_mono' (ln := ln) (tg := tg) (m := m) (show x + 1 ≤ k by omega)
            omega
          · refine ⟨?_, hbc, fun _ => pk_us, fun y => ?_, fun y => ?_, pk_us, pk_us, pk_us, pk_us⟩
            · rw [pk_us, et]
            · rw [et] at y; cases y
            · rw [et] at y; cases y
          · rw [et] at e; cases e
            exact hin j
        rw [oI_s, nI_clamp (n := 24 * m + se_pos ln tg m k) (by omega), sd_vb6, nF_a, sd_vbm]
        refine br_t (nI_pos' (by omega)) ⟨hvb, nm_e ⟨hvb, nm_e ⟨vp_in_nI (by omega) (by decide), pk_eq (op (6 * m + k)) 3 (fun o3 => ⟨hvb, nm_e (key _ ⟨_, _, rfl⟩ ?_)⟩) (fun o3 => ?_)⟩⟩⟩
        · rw [pk_us, if_pos ⟨o3, by rw [et]; simp⟩]; rfl
        · rw [huu bcl]
          exact key _ ⟨_, _, rfl⟩ (by rw [pk_us, if_neg (fun y => o3 y.1)])
/-- what a method becomes -/
theorem sx_emit {post : SX → Prop} {m : Nat} (C : sp_cls nc fc pa ups) (M : sp_mth nc nm fc hm na ln br dc) (N : sp_ins nm ln op cl nn ic ii fs sc) (F : sp_fd nc pa fc ups hm dc fd) (W : sp_ok nc nm fc br ln op cl nn fd) (A : ∀ a b, a < nc → b < 10 → xfd (10 * a + b) = oI (fd a b)) (T : ∀ j, j < 6 * nm → xtg j = oI (tg j) ∧ ∀ t, tg j = some t → t < nm ∧ sp_sh ln op t)
    (HW : ∀ c, c < nc → xnw c = oI (nw c) ∧ ∀ k, nw c = some k → k < 128) (hm' : m < nm) {o0 c0 i0 s0 m0 l0 u0 : Nat → Int32} (hag : se_ag (24 * m) o0 c0 i0 s0 m0 l0 u0 bop bcl bin bsk bme bli bou)
    (K : ∀ bop bcl bin bsk bme bli bou : Nat → Int32, se_ag (24 * m) o0 c0 i0 s0 m0 l0 u0 bop bcl bin bsk bme bli bou → (bt xlv m = true → ∀ k, k < ln m → se_row ln op cl nn ii fd tg nw xnn m k bop bcl bin bsk bme bli bou) → post ((nI nc), (nI nm), (nI nr), xnd, xmd, xnh, xlv, xq, xs, xbt, xft, xdp, xst, xss, xpt, xtr, xsm, fc, (oF pa), xfs, ups, (nF hm), (nF na), br, (nF ln), (nF op), ic, ii, xdc, xfd, (nF rk), rc, rn, xqu, xwt, xsi, xtg, xnw, xfa, xsg, xnn, xtk, (upd xrl m (nI (if bt xlv m = true then se_pos ln tg m (ln m) else 0))), bop, bcl, bin, bsk, bme, bli, bou, xnf, xfm, xfl, xfh, xou, xem, xel)) : wpX_emit post ((nI nc), (nI nm), (nI nr), xnd, xmd, xnh, xlv, xq, xs, xbt, xft, xdp, xst, xss, xpt, xtr, xsm, fc, (oF pa), xfs, ups, (nF hm), (nF na), br, (nF ln), (nF op), ic, ii, xdc, xfd, (nF rk), rc, rn, xqu, xwt, xsi, xtg, xnw, xfa, xsg, xnn, xtk, xrl, bop, bcl, bin, bsk, bme, bli, bou, xnf, xfm, xfl, xfh, xou, xem, xel) (nI m) := by
  have h30 := M.1
  have hl := (M.2.1 m hm').2.2.1
  refine ⟨ln m + 1, ?_⟩
  by_cases hlv : bt xlv m = true
  · rw [if_pos hlv] at K
    exact sx_emit4 C M N F W A T HW hm' hlv (fun o c i s m' l u ha hr => K o c i s m' l u ha (fun _ => hr)) (ln m + 1) 0 bop bcl bin bsk bme bli bou (by omega) (by omega) hag (fun x hx => by omega)
  · rw [if_neg hlv] at K
    have hK := K _ _ _ _ _ _ _ hag (fun z => absurd z hlv)
    have hv : vp_in (nI m) 30 := vp_in_nI (by omega) (by decide)
    have h0 : vp_nar .byte (0 : Int32).toInt8.toInt32 = nI 0 := sd_vbb (m := 0) (by decide)
    rw [wX_emit_4]
    dsimp only
    rw [nI_clamp (n := m) (by omega), nF_a, h0]
    exact ⟨hv, br_c (fun _ => ⟨hv, nm_e hK⟩) (fun _ => xh_f (by omega) (b_nf hlv) (br_t rfl ⟨hv, nm_e hK⟩))⟩
end
end
section
/-! what classes find for new names -/
def sw_stn (nm : Nat) (hm : Nat → Nat) (st : Int32) (N : Nat → Nat) (c : Nat) (x : Int32) : Option Nat := fsm (fun m => if bt st m = true ∧ hm m = c ∧ nI (N m) = x then some m else none) nm
def sw_par (pa : Nat → Option Nat) (nf : Nat → Int32 → Option Nat) (c : Nat) (x : Int32) : Option Nat := match pa c with
  | none => none
  | some p => nf p x
def sw_nf (nc nm : Nat) (pa : Nat → Option Nat) (hm : Nat → Nat) (st : Int32) (N : Nat → Nat) (nf : Nat → Int32 → Option Nat) : Prop := ∀ c x, c < nc → nf c x = sp_or (sw_stn nm hm st N c x) (sw_par pa nf c x)
/-- two methods that stand and that a class that stays sees, with one new name, have one old name -/
def sw_DF (nc nm : Nat) (ups : Nat → Int32) (hm na : Nat → Nat) (nd st : Int32) (N : Nat → Nat) : Prop :=
  ∀ a b e, a < nm → b < nm → bt st a = true → bt st b = true → e < nc → bt nd e = true → bt (ups e) (hm a) = true → bt (ups e) (hm b) = true → N a = N b → na a = na b
section
variable {nc nm : Nat} {pa : Nat → Option Nat} {fc ups br : Nat → Int32} {hm na ln : Nat → Nat} {dc fd : Nat → Nat → Option Nat} {nd st : Int32} {N : Nat → Nat} {nf : Nat → Int32 → Option Nat}
theorem sw_nfx (C : sp_cls nc fc pa ups) : ∃ nf, sw_nf nc nm pa hm st N nf := by
  obtain ⟨f, hf⟩ := fx (α := Nat × Int32) (V := Option Nat) (fun a => a.1) (fun r a => sp_or (sw_stn nm hm st N a.1 a.2) (sw_par pa (fun p x => r (p, x)) a.1 a.2))
  refine ⟨fun c x => f (c, x), fun c x hc => ?_⟩
  show f (c, x) = _
  rw [hf (c, x)]
  congr 1
  unfold sw_par
  dsimp only
  cases e : pa c with
  | none => rfl
  | some p =>
    have := (C.2.2.1 c p hc e).1
    dsimp only
    rw [if_pos this]
theorem sw_stnI {c m : Nat} {x : Int32} (h : sw_stn nm hm st N c x = some m) : m < nm ∧ bt st m = true ∧ hm m = c ∧ nI (N m) = x := by
  obtain ⟨a, h1, h2, _⟩ := fsm_is h
  split at h2
  · cases h2; exact ⟨h1, by assumption⟩
  · cases h2
theorem sw_UQ (C : sp_cls nc fc pa ups) (M : sp_mth nc nm fc hm na ln br dc) (D : sw_DF nc nm ups hm na nd st N) (hn : ∀ m, m < nm → bt st m = true → bt nd (hm m) = true) {a b : Nat} (ha : a < nm) (hb : b < nm) (sa : bt st a = true) (sb : bt st b = true) (e : hm a = hm b) (eN : N a = N b) : a = b := by
  have h1 := (M.2.1 a ha).1
  have h2 := C.2.2.2.1 _ h1
  have h3 := D a b (hm a) ha hb sa sb h1 (hn a ha sa) h2 (by rw [← e]; exact h2) eN
  have e1 := (M.2.2 (hm a) (na a) a).mpr ⟨ha, rfl, rfl⟩
  have e2 := (M.2.2 (hm a) (na a) b).mpr ⟨hb, e.symm, h3.symm⟩
  rw [e1] at e2
  exact Option.some.inj e2
theorem sw_stnE (U : ∀ a b, a < nm → b < nm → bt st a = true → bt st b = true → hm a = hm b → N a = N b → a = b) (hN : ∀ m, m < nm → bt st m = true → N m < 32) {m : Nat} (hm' : m < nm) (hs : bt st m = true) : sw_stn nm hm st N (hm m) (nI (N m)) = some m := by
  refine fsm_s (a := m) (if_pos ⟨hs, rfl, rfl⟩) (fun b hb => if_neg ?_) hm'
  rintro ⟨b1, b2, b3⟩
  have h1 := hN b (by omega) b1
  have h2 := hN m hm' hs
  have := U b m (by omega) hm' b1 hs b2 (sd_inj (by omega) (by omega) b3)
  omega
theorem sw_nfb (C : sp_cls nc fc pa ups) (H : sw_nf nc nm pa hm st N nf) : ∀ c x m, c < nc → nf c x = some m → m < nm := by
  intro c
  induction c using Nat.strongRecOn with
  | ind c ih =>
    intro x m hc e
    rw [H c x hc] at e
    cases e1 : sw_stn nm hm st N c x with
    | some k => rw [e1] at e; cases e; exact (sw_stnI e1).1
    | none =>
      rw [e1, sp_orn] at e
      unfold sw_par at e
      cases ep : pa c with
      | none => rw [ep] at e; cases e
      | some p =>
        rw [ep] at e
        have := (C.2.2.1 c p hc ep).1
        exact ih p this x m (by omega) e
theorem sw_nfN {x : Int32} (C : sp_cls nc fc pa ups) (H : sw_nf nc nm pa hm st N nf) (hx : ∀ m, m < nm → bt st m = true → ¬ nI (N m) = x) : ∀ c, c < nc → nf c x = none := by
  intro c
  induction c using Nat.strongRecOn with
  | ind c ih =>
    intro hc
    rw [H c x hc]
    have e1 : sw_stn nm hm st N c x = none := by
      cases e : sw_stn nm hm st N c x with
      | none => rfl
      | some m =>
        obtain ⟨a, b, _, d⟩ := sw_stnI e
        exact absurd d (hx m a b)
    rw [e1, sp_orn]
    unfold sw_par
    cases ep : pa c with
    | none => rfl
    | some p =>
      have := (C.2.2.1 c p hc ep).1
      exact ih p this (by omega)
/-- a method that is no interface's is found under its new name where it was found -/
theorem sw_static (C : sp_cls nc fc pa ups) (M : sp_mth nc nm fc hm na ln br dc) (F : sp_fd nc pa fc ups hm dc fd) (H : sw_nf nc nm pa hm st N nf) (D : sw_DF nc nm ups hm na nd st N) (hn : ∀ m, m < nm → bt st m = true → bt nd (hm m) = true) (hup : ∀ c a, c < nc → bt nd c = true → bt (ups c) a = true → bt nd a = true) (hN : ∀ m, m < nm → bt st m = true → N m < 32) {g n : Nat} (h0 : fc (hm g) = 0) (hs : bt st g = true) :
    ∀ c, c < nc → bt nd c = true → fd c n = some g → nf c (nI (N g)) = some g := by
  intro c
  induction c using Nat.strongRecOn with
  | ind c ih =>
    intro hc hnd hfd
    obtain ⟨hg, hna, hug⟩ := sp_sound C M F c n g hc hfd
    rw [H c _ hc]
    by_cases z : hm g = c
    · rw [← z, sw_stnE (fun a b ha hb sa sb e1 e2 => sw_UQ C M D hn ha hb sa sb e1 e2) hN hg hs]; rfl
    · have hdc : dc c n = none := by
        cases e : dc c n with
        | none => rfl
        | some m =>
          have h1 := F c n hc
          rw [e, sp_ors, hfd] at h1
          cases h1
          exact absurd ((M.2.2 c n g).mp e).2.1 z
      have hp : ∃ p, pa c = some p ∧ fd p n = some g := by
        have h1 := F c n hc
        rw [hdc, sp_orn, hfd] at h1
        cases eu : sp_up pa fc hm fd c n with
        | some k =>
          rw [eu, sp_ors] at h1
          cases h1
          obtain ⟨p, p1, p2, _⟩ := sp_upI eu
          exact ⟨p, p1, p2⟩
        | none =>
          exfalso
          rw [eu, sp_orn] at h1
          obtain ⟨a, a1, a2, a3⟩ := sp_ffI h1.symm
          have ea := ((M.2.2 a n g).mp a3).2.1
          rw [ea] at h0
          by_cases fcc : fc c = 0
          · rcases C.2.2.2.2.2.1 c a hc fcc a2 h0 with y | ⟨p, p1, p2⟩
            · omega
            · obtain ⟨q1, q2, q3, q4⟩ := C.2.2.1 c p hc p1
              obtain ⟨k, r1, r2⟩ := sp_nonf C M F p a n g (by omega) q2 p2 h0 a3
              have : sp_up pa fc hm fd c n = some k := by
                unfold sp_up sp_nf
                rw [p1]; dsimp only; rw [r1]; dsimp only; rw [if_pos r2]
              rw [this] at eu; cases eu
          · exact C.2.2.2.2.2.2 c a hc fcc a2 h0
      obtain ⟨p, p1, p2⟩ := hp
      obtain ⟨q1, q2, q3, q4⟩ := C.2.2.1 c p hc p1
      have hst : sw_stn nm hm st N c (nI (N g)) = none := by
        cases e : sw_stn nm hm st N c (nI (N g)) with
        | none => rfl
        | some m =>
          exfalso
          obtain ⟨m1, m2, m3, m4⟩ := sw_stnI e
          have b1 := hN m m1 m2
          have b2 := hN g hg hs
          have := D m g c m1 hg m2 hs hc hnd (by rw [m3]; exact C.2.2.2.1 c hc) hug (sd_inj (by omega) (by omega) m4)
          rw [(M.2.2 c n m).mpr ⟨m1, m3, by omega⟩] at hdc
          cases hdc
      rw [hst, sp_orn]
      unfold sw_par
      rw [p1]
      exact ih p q1 (by omega) (hup c p hc hnd q4) p2
end
section
variable {nc nm nr : Nat} {pa : Nat → Option Nat} {hm na ln op rk cl nn : Nat → Nat} {fc ups br ic ii fs sc rc rn : Nat → Int32} {dc fd : Nat → Nat → Option Nat}
variable {xnd xmd xnh xlv xq xs xbt xft xdp xst xss xpt xtr xsm : Int32} {xfs xdc xfd xqu xwt xsi xtg xnw xfa xsg xnn xtk xrl bop bcl bin bsk bme bli bou xnf xfm xfl xfh xou xem xel : Nat → Int32}
variable {ypl ynd ymd ynh ylv ybt ydp yst yot yen : Int32} {yow yma yil ynu ynn yfa yvm yvl yvh ypu : Nat → Int32}
variable {N : Nat → Nat} {nf : Nat → Int32 → Option Nat}
theorem sx_anew66 {post : SX → Prop} {J2 : Int32 → (Nat → Int32) → (Nat → Int32) → (Nat → Int32) → (Nat → Int32) → (Nat → Int32) → (Nat → Int32) → (Nat → Int32) → (Nat → Int32) → (Nat → Int32) → (Nat → Int32) → (Nat → Int32) → (Nat → Int32) → (Nat → Int32) → (Nat → Int32) → (Nat → Int32) → (Nat → Int32) → (Nat → Int32) → (Nat → Int32) → (Nat → Int32) → (Nat → Int32) → (Nat → Int32) → (Nat → Int32) → (Nat → Int32) → (Nat → Int32) → (Nat → Int32) → (Nat → Int32) → (Nat → Int32) → (Nat → Int32) → (Nat → Int32) → (Nat → Int32) → (Nat → Int32) → (Nat → Int32) → (Nat → Int32) → (Nat → Int32) → (Nat → Int32) → (Nat → Int32) → (Nat → Int32) → (Nat → Int32) → (Nat → Int32) → (Nat → Int32) → Prop} {c : Nat} (C : sp_cls nc fc pa ups) (M : sp_mth nc nm fc hm na ln br dc) (H : sw_nf nc nm pa hm (xlv ||| xnh) N nf) (U : ∀ a b, a < nm → b < nm → bt (xlv ||| xnh) a = true → bt (xlv ||| xnh) b = true → hm a = hm b → N a = N b → a = b) (hN : ∀ m, m < nm → bt (xlv ||| xnh) m = true → N m < 32) (hX : ∀ m, m < nm → bt (xlv ||| xnh) m = true → xnn m = nI (N m)) (hc : c < nc)
    (K : ∀ xnf : Nat → Int32, (∀ a n, a < c + 1 → n < 32 → xnf (32 * a + n) = oI (nf a (nI n))) → J2 (nI (c + 1)) fc (oF pa) xfs ups (nF hm) (nF na) br (nF ln) (nF op) ic ii xdc xfd (nF rk) rc rn xqu xwt xsi xtg xnw xfa xsg xnn xtk xrl bop bcl bin bsk bme bli bou xnf xfm xfl xfh xou xem xel) :
    ∀ fuel i (xnf : Nat → Int32), i ≤ nm → nm - i < fuel → (∀ a n, a < c → n < 32 → xnf (32 * a + n) = oI (nf a (nI n))) →
      (∀ n, n < 32 → (∀ m, m < i → bt (xlv ||| xnh) m = true → hm m = c → N m = n → xnf (32 * c + n) = nI m) ∧ ((∀ m, m < i → ¬ (bt (xlv ||| xnh) m = true ∧ hm m = c ∧ N m = n)) → xnf (32 * c + n) = oI (sw_par pa nf c (nI n)))) → wX_tableAnew_66 post J2 (nI c) (nI nc) (nI nm) (nI nr) xnd xmd xnh xlv xq xs xbt xft xdp xst xss xpt xtr xsm fuel (nI i) fc (oF pa) xfs ups (nF hm) (nF na) br (nF ln) (nF op) ic ii xdc xfd (nF rk) rc rn xqu xwt xsi xtg xnw xfa xsg xnn xtk xrl bop bcl bin bsk bme bli bou xnf xfm xfl xfh xou xem xel := by
  intro fuel
  induction fuel with
  | zero => intro i _ _ h; omega
  | succ fu ih =>
    intro i xnf hi hf h1 h2
    have h10 := C.1
    have h30 := M.1
    rw [wX_tableAnew_66]
    refine pk_le nm i (fun h => nm_r (nI_1 c) (K xnf (fun a n ha hn => ?_))) (fun h => ?_)
    · by_cases z : a = c
      · subst z
        rw [H a (nI n) hc]
        cases e : sw_stn nm hm (xlv ||| xnh) N a (nI n) with
        | some m =>
          obtain ⟨m1, m2, m3, m4⟩ := sw_stnI e
          have := hN m m1 m2
          exact (h2 n hn).1 m (by omega) m2 m3 (sd_inj (by omega) (by omega) m4)
        | none =>
          rw [sp_orn]
          refine (h2 n hn).2 (fun m hm' z => ?_)
          have := fsm_isn e m (by omega)
          rw [if_pos ⟨z.1, z.2.1, by rw [z.2.2]⟩] at this
          cases this
      · exact h1 a n (by omega) hn
    · have hh := (M.2.1 i h).1
      have hskip : ¬ (bt (xlv ||| xnh) i = true ∧ hm i = c) → ∀ y, y = nI i + 1 → wX_tableAnew_66 post J2 (nI c) (nI nc) (nI nm) (nI nr) xnd xmd xnh xlv xq xs xbt xft xdp xst xss xpt xtr xsm fu y fc (oF pa) xfs ups (nF hm) (nF na) br (nF ln) (nF op) ic ii xdc xfd (nF rk) rc rn xqu xwt xsi xtg xnw xfa xsg xnn xtk xrl bop bcl bin bsk bme bli bou xnf xfm xfl xfh xou xem xel := fun hne =>
        nm_r (nI_1 i) (ih (i + 1) xnf (by omega) (by omega) h1 (fun n hn => ⟨lt_s (h2 n hn).1 (fun a b _ => absurd ⟨a, b⟩ hne), fun z => (h2 n hn).2 (fun m hm' => z m (by omega))⟩))
      rw [nI_clamp (n := i) (by omega), nF_a]
      refine ⟨vp_in_nI (by omega) (by decide), pk_eq (hm i) c (fun e => sx_stands (by omega) (fun hs => hskip (fun z => hs z.1)) (fun hs => ⟨vp_in_nI (by omega) (by decide), ?_⟩)) (fun e => hskip (fun z => e z.2))⟩
      have hn := hN i h hs
      rw [hX i h hs, sd_x32, nI_add, nI_clamp (n := 32 * c + N i) (by omega), sd_vbb (by omega)]
      refine ⟨vp_in_nI (by omega) (by decide), nm_e (nm_r (nI_1 i) (ih (i + 1) _ (by omega) (by omega) (fun a n ha hn' => ?_) (fun n hn' => ⟨fun m hm' a b d => ?_, fun z => ?_⟩)))⟩
      · rw [pk_un (by omega)]; exact h1 a n ha hn'
      · by_cases y : m = i
        · rw [← d, y, pk_us]
        · have : N m ≠ N i := fun w => y (U m i (by omega) h a hs (b.trans e.symm) w)
          rw [pk_un (by omega)]
          exact (h2 n hn').1 m (by omega) a b d
      · have : n ≠ N i := fun w => z i (by omega) ⟨hs, e, w.symm⟩
        rw [pk_un (by omega)]
        exact (h2 n hn').2 (fun m hm' => z m (by omega))
theorem sx_anew12 {post : SX → Prop} {J2 : Int32 → (Nat → Int32) → (Nat → Int32) → (Nat → Int32) → (Nat → Int32) → (Nat → Int32) → (Nat → Int32) → (Nat → Int32) → (Nat → Int32) → (Nat → Int32) → (Nat → Int32) → (Nat → Int32) → (Nat → Int32) → (Nat → Int32) → (Nat → Int32) → (Nat → Int32) → (Nat → Int32) → (Nat → Int32) → (Nat → Int32) → (Nat → Int32) → (Nat → Int32) → (Nat → Int32) → (Nat → Int32) → (Nat → Int32) → (Nat → Int32) → (Nat → Int32) → (Nat → Int32) → (Nat → Int32) → (Nat → Int32) → (Nat → Int32) → (Nat → Int32) → (Nat → Int32) → (Nat → Int32) → (Nat → Int32) → (Nat → Int32) → (Nat → Int32) → (Nat → Int32) → (Nat → Int32) → (Nat → Int32) → (Nat → Int32) → (Nat → Int32) → Prop} {c : Nat} (C : sp_cls nc fc pa ups) (M : sp_mth nc nm fc hm na ln br dc) (H : sw_nf nc nm pa hm (xlv ||| xnh) N nf) (U : ∀ a b, a < nm → b < nm → bt (xlv ||| xnh) a = true → bt (xlv ||| xnh) b = true → hm a = hm b → N a = N b → a = b) (hN : ∀ m, m < nm → bt (xlv ||| xnh) m = true → N m < 32) (hX : ∀ m, m < nm → bt (xlv ||| xnh) m = true → xnn m = nI (N m)) (hc : c < nc)
    (K : ∀ xnf : Nat → Int32, (∀ a n, a < c + 1 → n < 32 → xnf (32 * a + n) = oI (nf a (nI n))) → J2 (nI (c + 1)) fc (oF pa) xfs ups (nF hm) (nF na) br (nF ln) (nF op) ic ii xdc xfd (nF rk) rc rn xqu xwt xsi xtg xnw xfa xsg xnn xtk xrl bop bcl bin bsk bme bli bou xnf xfm xfl xfh xou xem xel) :
    ∀ fuel n (xnf : Nat → Int32), n ≤ 32 → 32 - n < fuel → (∀ a n, a < c → n < 32 → xnf (32 * a + n) = oI (nf a (nI n))) → (∀ x, x < n → xnf (32 * c + x) = oI (sw_par pa nf c (nI x))) → wX_tableAnew_12 post J2 (nI c) (nI nc) (nI nm) (nI nr) xnd xmd xnh xlv xq xs xbt xft xdp xst xss xpt xtr xsm fuel (nI n) fc (oF pa) xfs ups (nF hm) (nF na) br (nF ln) (nF op) ic ii xdc xfd (nF rk) rc rn xqu xwt xsi xtg xnw xfa xsg xnn xtk xrl bop bcl bin bsk bme bli bou xnf xfm xfl xfh xou xem xel := by
  intro fuel
  induction fuel with
  | zero => intro n _ _ h; omega
  | succ fu ih =>
    intro n xnf hn hf h1 h2
    have h10 := C.1
    have h30 := M.1
    rw [wX_tableAnew_12]
    refine pk_le 32 n (fun h => ⟨nm + 1, ?_⟩) (fun h => ⟨vp_in_nI (by omega) (by decide), ?_⟩)
    · rw [← nI_0]
      exact sx_anew66 C M H U hN hX hc K (nm + 1) 0 xnf (by omega) (by omega) h1 (fun x hx => ⟨fun m hm' => by omega, fun _ => h2 x (by omega)⟩)
    · have hvc : vp_in (nI c) 10 := vp_in_nI (by omega) (by decide)
      have hv : vp_in (nI (32 * c + n)) 320 := vp_in_nI (by omega) (by decide)
      have hgo : ∀ v, v = oI (sw_par pa nf c (nI n)) → ∀ y, y = nI n + 1 → wX_tableAnew_12 post J2 (nI c) (nI nc) (nI nm) (nI nr) xnd xmd xnh xlv xq xs xbt xft xdp xst xss xpt xtr xsm fu y fc (oF pa) xfs ups (nF hm) (nF na) br (nF ln) (nF op) ic ii xdc xfd (nF rk) rc rn xqu xwt xsi xtg xnw xfa xsg xnn xtk xrl bop bcl bin bsk bme bli bou (upd xnf (32 * c + n) v) xfm xfl xfh xou xem xel := fun v ev =>
        nm_r (nI_1 n) (ih (n + 1) _ (by omega) (by omega) (fun a x ha hx => by rw [pk_un (by omega)]; exact h1 a x ha hx) (lt_s (fun x hx => by rw [pk_un (by omega)]; exact h2 x hx) (by rw [pk_us, ev])))
      rw [nI_clamp (n := c) (by omega), oF_a, sd_x32, nI_add, nI_clamp (n := 32 * c + n) (by omega), sd_vbm]
      cases ep : pa c with
      | none => exact br_f (by decide) ⟨hv, nm_e (hgo _ (by unfold sw_par; rw [ep]; rfl))⟩
      | some p =>
        have hpc := (C.2.2.1 c p hc ep).1
        rw [oI_s, sd_x32, nI_add, nI_clamp (n := 32 * p + n) (by omega), h1 p n hpc h, sd_vo (fun m e => by have := sw_nfb C H p _ m (by omega) e; omega)]
        exact br_t (nI_pos' (by omega)) ⟨hvc, vp_in_nI (by omega) (by decide), hv, nm_e (hgo _ (by unfold sw_par; rw [ep]))⟩
theorem sx_anew2 {post : SX → Prop} (C : sp_cls nc fc pa ups) (M : sp_mth nc nm fc hm na ln br dc) (H : sw_nf nc nm pa hm (xlv ||| xnh) N nf) (U : ∀ a b, a < nm → b < nm → bt (xlv ||| xnh) a = true → bt (xlv ||| xnh) b = true → hm a = hm b → N a = N b → a = b) (hN : ∀ m, m < nm → bt (xlv ||| xnh) m = true → N m < 32) (hX : ∀ m, m < nm → bt (xlv ||| xnh) m = true → xnn m = nI (N m))
    (K : ∀ xnf : Nat → Int32, (∀ a n, a < nc → n < 32 → xnf (32 * a + n) = oI (nf a (nI n))) → post ((nI nc), (nI nm), (nI nr), xnd, xmd, xnh, xlv, xq, xs, xbt, xft, xdp, xst, xss, xpt, xtr, xsm, fc, (oF pa), xfs, ups, (nF hm), (nF na), br, (nF ln), (nF op), ic, ii, xdc, xfd, (nF rk), rc, rn, xqu, xwt, xsi, xtg, xnw, xfa, xsg, xnn, xtk, xrl, bop, bcl, bin, bsk, bme, bli, bou, xnf, xfm, xfl, xfh, xou, xem, xel)) :
    ∀ fuel c (xnf : Nat → Int32), c ≤ nc → nc - c < fuel → (∀ a n, a < c → n < 32 → xnf (32 * a + n) = oI (nf a (nI n))) → wX_tableAnew_2 post (nI nc) (nI nm) (nI nr) xnd xmd xnh xlv xq xs xbt xft xdp xst xss xpt xtr xsm fuel (nI c) fc (oF pa) xfs ups (nF hm) (nF na) br (nF ln) (nF op) ic ii xdc xfd (nF rk) rc rn xqu xwt xsi xtg xnw xfa xsg xnn xtk xrl bop bcl bin bsk bme bli bou xnf xfm xfl xfh xou xem xel := by
  intro fuel
  induction fuel with
  | zero => intro c _ _ h; omega
  | succ fu ih =>
    intro c xnf hc hf h1
    have h10 := C.1
    rw [wX_tableAnew_2]
    refine pk_le nc c (fun h => K xnf (fun a n ha hn => h1 a n (by omega) hn)) (fun h => ⟨33, ?_⟩)
    rw [← nI_0]
    exact sx_anew12 C M H U hN hX h (fun xnf' h' => ih (c + 1) xnf' (by omega) (by omega) h') 33 0 xnf (by omega) (by omega) h1 (fun x hx => by omega)
theorem sx_tableAnew {post : SX → Prop} (C : sp_cls nc fc pa ups) (M : sp_mth nc nm fc hm na ln br dc) (H : sw_nf nc nm pa hm (xlv ||| xnh) N nf) (U : ∀ a b, a < nm → b < nm → bt (xlv ||| xnh) a = true → bt (xlv ||| xnh) b = true → hm a = hm b → N a = N b → a = b) (hN : ∀ m, m < nm → bt (xlv ||| xnh) m = true → N m < 32) (hX : ∀ m, m < nm → bt (xlv ||| xnh) m = true → xnn m = nI (N m))
    (K : ∀ xnf : Nat → Int32, (∀ a n, a < nc → n < 32 → xnf (32 * a + n) = oI (nf a (nI n))) → post ((nI nc), (nI nm), (nI nr), xnd, xmd, xnh, xlv, xq, xs, xbt, xft, xdp, xst, xss, xpt, xtr, xsm, fc, (oF pa), xfs, ups, (nF hm), (nF na), br, (nF ln), (nF op), ic, ii, xdc, xfd, (nF rk), rc, rn, xqu, xwt, xsi, xtg, xnw, xfa, xsg, xnn, xtk, xrl, bop, bcl, bin, bsk, bme, bli, bou, xnf, xfm, xfl, xfh, xou, xem, xel)) : wpX_tableAnew post ((nI nc), (nI nm), (nI nr), xnd, xmd, xnh, xlv, xq, xs, xbt, xft, xdp, xst, xss, xpt, xtr, xsm, fc, (oF pa), xfs, ups, (nF hm), (nF na), br, (nF ln), (nF op), ic, ii, xdc, xfd, (nF rk), rc, rn, xqu, xwt, xsi, xtg, xnw, xfa, xsg, xnn, xtk, xrl, bop, bcl, bin, bsk, bme, bli, bou, xnf, xfm, xfl, xfh, xou, xem, xel) :=
  ⟨nc + 1, sx_anew2 C M H U hN hX K (nc + 1) 0 xnf (by omega) (by omega) (fun a n h => by omega)⟩
/-! the reference -/
theorem sy_nameOf {post : Int32 → Prop} {m : Nat} (h30 : nm ≤ 30) (Y : ∀ m, m < nm → bt (ynh ||| ylv) m = true → ∃ r, r < nm ∧ yfa m = nI r ∧ ynn r = nI (N m)) (hm' : m < nm) (hs : bt (ynh ||| ylv) m = true) (p : post (nI (N m))) : wpY_nameOf post ((nI nc), (nI nm), (nI nr), ypl, ynd, ymd, ynh, ylv, ybt, ydp, yst, yot, yen, fc, br, (oF pa), ups, yow, yma, (nF hm), (nF na), (nF ln), (nF op), fs, sc, (nF rk), rc, rn, yil, ynu, ynn, yfa, yvm, yvl, yvh, ypu) (nI m) := by
  obtain ⟨r, r1, r2, r3⟩ := Y m hm' hs
  unfold wpY_nameOf
  dsimp only
  rw [nI_clamp (n := m) (by omega), r2, nI_clamp (n := r) (by omega), r3]
  exact ⟨vp_in_nI (by omega) (by decide), vp_in_nI (by omega) (by decide), p⟩
theorem sy_standing2 {post : Int32 → Prop} {c : Nat} {x : Int32} (M : sp_mth nc nm fc hm na ln br dc) (h10 : nc ≤ 10) (Y : ∀ m, m < nm → bt (ynh ||| ylv) m = true → ∃ r, r < nm ∧ yfa m = nI r ∧ ynn r = nI (N m)) (hc : c < nc) (hp : post (oI (sw_stn nm hm (ynh ||| ylv) N c x))) :
    ∀ fuel i, i ≤ nm → nm - i < fuel → (∀ m, m < i → ¬ (bt (ynh ||| ylv) m = true ∧ hm m = c ∧ nI (N m) = x)) → wY_standing_2 post (nI c) x (nI nc) (nI nm) (nI nr) ypl ynd ymd ynh ylv ybt ydp yst yot yen fc br (oF pa) ups yow yma (nF hm) (nF na) (nF ln) (nF op) fs sc (nF rk) rc rn yil ynu ynn yfa yvm yvl yvh ypu fuel (nI i) := by
  intro fuel
  induction fuel with
  | zero => intro i _ h; omega
  | succ fu ih =>
    intro i hi hf hno
    have h30 := M.1
    rw [wY_standing_2]
    refine pk_le nm i (fun h => ?_) (fun h => ?_)
    · have e : sw_stn nm hm (ynh ||| ylv) N c x = none := fsm_n (fun b hb => if_neg (hno b (by omega)))
      rw [e] at hp; exact hp
    · have hh := (M.2.1 i h).1
      have hskip : ¬ (bt (ynh ||| ylv) i = true ∧ hm i = c ∧ nI (N i) = x) → ∀ y, y = nI i + 1 → wY_standing_2 post (nI c) x (nI nc) (nI nm) (nI nr) ypl ynd ymd ynh ylv ybt ydp yst yot yen fc br (oF pa) ups yow yma (nF hm) (nF na) (nF ln) (nF op) fs sc (nF rk) rc rn yil ynu ynn yfa yvm yvl yvh ypu fu y := fun hne =>
        nm_r (nI_1 i) (ih (i + 1) (by omega) (by omega) (lt_s hno hne))
      rw [nI_clamp (n := i) (by omega), nF_a]
      refine sy_remains (by omega) (fun hs => hskip (fun z => hs z.1)) (fun hs => ⟨vp_in_nI (by omega) (by decide), pk_eq (hm i) c (fun e => sy_nameOf h30 Y h hs (br_c (fun en => ?_) (fun en => hskip (fun z => en z.2.2)))) (fun e => hskip (fun z => e z.2.1))⟩)
      have e' : sw_stn nm hm (ynh ||| ylv) N c x = some i := fsm_s (a := i) (if_pos ⟨hs, e, en⟩) (fun b hb => if_neg (hno b hb)) h
      rw [e'] at hp; exact hp
theorem sy_standing {post : Int32 → Prop} {c : Nat} {x : Int32} (M : sp_mth nc nm fc hm na ln br dc) (h10 : nc ≤ 10) (Y : ∀ m, m < nm → bt (ynh ||| ylv) m = true → ∃ r, r < nm ∧ yfa m = nI r ∧ ynn r = nI (N m)) (hc : c < nc) (hp : post (oI (sw_stn nm hm (ynh ||| ylv) N c x))) : wpY_standing post ((nI nc), (nI nm), (nI nr), ypl, ynd, ymd, ynh, ylv, ybt, ydp, yst, yot, yen, fc, br, (oF pa), ups, yow, yma, (nF hm), (nF na), (nF ln), (nF op), fs, sc, (nF rk), rc, rn, yil, ynu, ynn, yfa, yvm, yvl, yvh, ypu) (nI c) x :=
  ⟨nm + 1, sy_standing2 M h10 Y hc hp (nm + 1) 0 (by omega) (by omega) (fun m h => by omega)⟩
theorem sy_findsNew2 {post : Int32 → Prop} {x : Int32} (C : sp_cls nc fc pa ups) (M : sp_mth nc nm fc hm na ln br dc) (H : sw_nf nc nm pa hm (ynh ||| ylv) N nf) (Y : ∀ m, m < nm → bt (ynh ||| ylv) m = true → ∃ r, r < nm ∧ yfa m = nI r ∧ ynn r = nI (N m)) :
    ∀ fuel c, c < nc → c + 1 < fuel → post (oI (nf c x)) → wY_findsNew_2 post x (nI nc) (nI nm) (nI nr) ypl ynd ymd ynh ylv ybt ydp yst yot yen fc br (oF pa) ups yow yma (nF hm) (nF na) (nF ln) (nF op) fs sc (nF rk) rc rn yil ynu ynn yfa yvm yvl yvh ypu fuel (nI c) := by
  intro fuel
  induction fuel with
  | zero => intro c _ h; omega
  | succ fu ih =>
    intro c hc hf hp
    have h10 := C.1
    have h30 := M.1
    rw [H c x hc] at hp
    rw [wY_findsNew_2]
    refine br_f (nI_pos (by omega)) (sy_standing M h10 Y hc ?_)
    cases e : sw_stn nm hm (ynh ||| ylv) N c x with
    | some m =>
      rw [e, sp_ors] at hp
      have := (sw_stnI e).1
      exact br_f (nI_pos (by omega)) hp
    | none =>
      rw [e, sp_orn] at hp
      refine br_t (by decide) ⟨vp_in_nI (by omega) (by decide), nm_r (e' := oI (pa c)) (by rw [nI_clamp (by omega)]; rfl) ?_⟩
      unfold sw_par at hp
      cases ep : pa c with
      | none =>
        rw [ep] at hp
        obtain ⟨f', rfl⟩ : ∃ f', fu = f' + 1 := ⟨fu - 1, by omega⟩
        rw [oI_n, wY_findsNew_2]
        exact br_t (by decide) hp
      | some p =>
        rw [ep] at hp
        have := (C.2.2.1 c p hc ep).1
        exact ih p (by omega) (by omega) hp
theorem sy_findsNew {post : Int32 → Prop} {c : Nat} {x : Int32} (C : sp_cls nc fc pa ups) (M : sp_mth nc nm fc hm na ln br dc) (H : sw_nf nc nm pa hm (ynh ||| ylv) N nf) (Y : ∀ m, m < nm → bt (ynh ||| ylv) m = true → ∃ r, r < nm ∧ yfa m = nI r ∧ ynn r = nI (N m)) (hc : c < nc) (hp : post (oI (nf c x))) : wpY_findsNew post ((nI nc), (nI nm), (nI nr), ypl, ynd, ymd, ynh, ylv, ybt, ydp, yst, yot, yen, fc, br, (oF pa), ups, yow, yma, (nF hm), (nF na), (nF ln), (nF op), fs, sc, (nF rk), rc, rn, yil, ynu, ynn, yfa, yvm, yvl, yvh, ypu) (nI c) x :=
  ⟨c + 2, sy_findsNew2 C M H Y (c + 2) c hc (by omega) hp⟩
end
end
section
/-! the relation between the two states -/
/-- the interfaces of the last class -/
def rl_lst (nc : Nat) (xfs yow yma : Nat → Int32) : Prop :=
  ∀ c, nc = c + 1 → (xfs (2 * c) = -1 ∧ xfs (2 * c + 1) = -1 ∧ yow c = 0 ∧ yma c = 0) ∨ (∃ i, i < c ∧ xfs (2 * c) = nI i ∧ xfs (2 * c + 1) = -1 ∧ (∀ j, bt (yow c) j = decide (j = i)) ∧ yma c = 1) ∨ (∃ i, i < c ∧ xfs (2 * c + 1) = nI i ∧ yma c = 2)
def rl_B (nc nm : Nat) (pa : Nat → Option Nat) (hm ln op cl nn : Nat → Nat) (fc ups br ii : Nat → Int32) (dc : Nat → Nat → Option Nat) (nd st lv : Int32) (xfd xtg xnw xnn xrl bop bcl bin bsk bme bli bou xnf yil ynu ynn yfa : Nat → Int32) : Prop :=
  ∃ (fd : Nat → Nat → Option Nat) (tg nw : Nat → Option Nat) (N : Nat → Nat) (nf : Nat → Int32 → Option Nat),
    sp_fd nc pa fc ups hm dc fd ∧ sp_ok nc nm fc br ln op cl nn fd ∧ (∀ a b, a < nc → b < 10 → xfd (10 * a + b) = oI (fd a b)) ∧
    (∀ c, bt nd c = true → c < nc) ∧ (∀ m, bt st m = true → m < nm) ∧ (∀ m, bt lv m = true → bt st m = true ∧ br m = 0) ∧
    (∀ m k, m < nm → bt lv m = true → k < ln m → (op (6 * m + k) ≠ 0 → op (6 * m + k) ≠ 5 → (op (6 * m + k) = 3 → tg (6 * m + k) = none) → bt nd (cl (6 * m + k)) = true) ∧
      (op (6 * m + k) = 2 ∨ op (6 * m + k) = 3 → tg (6 * m + k) = none → ∀ g, fd (cl (6 * m + k)) (nn (6 * m + k)) = some g → bt st g = true) ∧
      (op (6 * m + k) = 3 → tg (6 * m + k) = none → ∀ g, fd (cl (6 * m + k)) (nn (6 * m + k)) = some g → bt lv g = true ∧ nf (cl (6 * m + k)) (nI (N g)) = some g)) ∧
    (∀ j, j < 6 * nm → xtg j = oI (tg j) ∧ yil j = oI (tg j) ∧ ∀ t, tg j = some t → t < nm ∧ sp_sh ln op t ∧ (op j = 2 ∨ op j = 3)) ∧
    (∀ c, c < nc → xnw c = oI (nw c) ∧ ynu c = oI (nw c) ∧ (bt nd c = true ↔ ∃ k, nw c = some k) ∧ ∀ k, nw c = some k → k < 128) ∧
    (∀ c d k, c < nc → d < nc → nw c = some k → nw d = some k → c = d) ∧
    (∀ m, m < nm → bt st m = true → N m < 32 ∧ xnn m = nI (N m) ∧ ∃ r, r < nm ∧ yfa m = nI r ∧ ynn r = nI (N m)) ∧
    sw_nf nc nm pa hm st N nf ∧ (∀ a n, a < nc → n < 32 → xnf (32 * a + n) = oI (nf a (nI n))) ∧
    (∀ m k, m < nm → bt lv m = true → k < ln m → se_row ln op cl nn ii fd tg nw xnn m k bop bcl bin bsk bme bli bou) ∧
    (∀ m, m < nm → xrl m = nI (if bt lv m = true then se_pos ln tg m (ln m) else 0))
def rl_run (np dp : Nat) (xem xel yvm yvl : Nat → Int32) : Prop :=
  np ≤ 200 ∧ dp ≤ 8 ∧ ∀ k, k < dp → xem k = yvm (dp - 1 - k) ∧ xel k = yvl (dp - 1 - k)
def i_Rel (_ : Nat) (u : SX) (v : SY) : Prop :=
  ∃ (nc : Nat) (nm : Nat) (nr : Nat) (np : Nat) (dp : Nat) (pa : Nat → Option Nat) (hm : Nat → Nat) (na : Nat → Nat) (ln : Nat → Nat) (op : Nat → Nat) (rk : Nat → Nat) (cl : Nat → Nat) (nn : Nat → Nat) (dc : Nat → Nat → Option Nat),
    u.1 = (nI nc) ∧ u.2.1 = (nI nm) ∧ u.2.2.1 = (nI nr) ∧ u.2.2.2.2.2.2.2.2.2.2.2.2.2.2.1 = (nI np) ∧ u.2.2.2.2.2.2.2.2.2.2.2.2.2.2.2.1 = (nI dp) ∧ u.2.2.2.2.2.2.2.2.2.2.2.2.2.2.2.2.2.2.1 = (oF pa) ∧ u.2.2.2.2.2.2.2.2.2.2.2.2.2.2.2.2.2.2.2.2.2.1 = (nF hm) ∧ u.2.2.2.2.2.2.2.2.2.2.2.2.2.2.2.2.2.2.2.2.2.2.1 = (nF na) ∧ u.2.2.2.2.2.2.2.2.2.2.2.2.2.2.2.2.2.2.2.2.2.2.2.2.1 = (nF ln) ∧ u.2.2.2.2.2.2.2.2.2.2.2.2.2.2.2.2.2.2.2.2.2.2.2.2.2.1 = (nF op) ∧ u.2.2.2.2.2.2.2.2.2.2.2.2.2.2.2.2.2.2.2.2.2.2.2.2.2.2.2.2.2.2.1 = (nF rk) ∧ v.1 = (nI nc) ∧ v.2.1 = (nI nm) ∧ v.2.2.1 = (nI nr) ∧ v.2.2.2.1 = u.2.2.2.2.2.2.2.2.2.2.1 ∧ v.2.2.2.2.2.2.2.2.1 = u.2.2.2.2.2.2.2.2.2.1 ∧ v.2.2.2.2.2.2.2.2.2.1 = (nI dp) ∧ v.2.2.2.2.2.2.2.2.2.2.1 = u.2.2.2.2.2.2.2.2.2.2.2.2.1 ∧ v.2.2.2.2.2.2.2.2.2.2.2.1 = (nI np) ∧ v.2.2.2.2.2.2.2.2.2.2.2.2.2.1 = u.2.2.2.2.2.2.2.2.2.2.2.2.2.2.2.2.2.1 ∧ v.2.2.2.2.2.2.2.2.2.2.2.2.2.2.1 = u.2.2.2.2.2.2.2.2.2.2.2.2.2.2.2.2.2.2.2.2.2.2.2.1 ∧ v.2.2.2.2.2.2.2.2.2.2.2.2.2.2.2.1 = (oF pa) ∧ v.2.2.2.2.2.2.2.2.2.2.2.2.2.2.2.2.1 = u.2.2.2.2.2.2.2.2.2.2.2.2.2.2.2.2.2.2.2.2.1 ∧ v.2.2.2.2.2.2.2.2.2.2.2.2.2.2.2.2.2.2.2.1 = (nF hm) ∧ v.2.2.2.2.2.2.2.2.2.2.2.2.2.2.2.2.2.2.2.2.1 = (nF na) ∧ v.2.2.2.2.2.2.2.2.2.2.2.2.2.2.2.2.2.2.2.2.2.1 = (nF ln) ∧ v.2.2.2.2.2.2.2.2.2.2.2.2.2.2.2.2.2.2.2.2.2.2.1 = (nF op) ∧ v.2.2.2.2.2.2.2.2.2.2.2.2.2.2.2.2.2.2.2.2.2.2.2.2.2.1 = (nF rk) ∧ v.2.2.2.2.2.2.2.2.2.2.2.2.2.2.2.2.2.2.2.2.2.2.2.2.2.2.1 = u.2.2.2.2.2.2.2.2.2.2.2.2.2.2.2.2.2.2.2.2.2.2.2.2.2.2.2.2.2.2.2.1 ∧ v.2.2.2.2.2.2.2.2.2.2.2.2.2.2.2.2.2.2.2.2.2.2.2.2.2.2.2.1 = u.2.2.2.2.2.2.2.2.2.2.2.2.2.2.2.2.2.2.2.2.2.2.2.2.2.2.2.2.2.2.2.2.1 ∧ v.2.2.2.2.2.2.2.2.2.2.2.2.2.2.2.2.2.2.2.2.2.2.2.2.2.2.2.2.2.2.2.2.2.2.2 = u.2.2.2.2.2.2.2.2.2.2.2.2.2.2.2.2.2.2.2.2.2.2.2.2.2.2.2.2.2.2.2.2.2.2.2.2.2.2.2.2.2.2.2.2.2.2.2.2.2.2.2.2.2.2.1 ∧
    (sp_cls nc u.2.2.2.2.2.2.2.2.2.2.2.2.2.2.2.2.2.1 pa u.2.2.2.2.2.2.2.2.2.2.2.2.2.2.2.2.2.2.2.2.1) ∧ (sp_mth nc nm u.2.2.2.2.2.2.2.2.2.2.2.2.2.2.2.2.2.1 hm na ln u.2.2.2.2.2.2.2.2.2.2.2.2.2.2.2.2.2.2.2.2.2.2.2.1 dc) ∧ (sp_ins nm ln op cl nn u.2.2.2.2.2.2.2.2.2.2.2.2.2.2.2.2.2.2.2.2.2.2.2.2.2.2.1 u.2.2.2.2.2.2.2.2.2.2.2.2.2.2.2.2.2.2.2.2.2.2.2.2.2.2.2.1 v.2.2.2.2.2.2.2.2.2.2.2.2.2.2.2.2.2.2.2.2.2.2.2.1 v.2.2.2.2.2.2.2.2.2.2.2.2.2.2.2.2.2.2.2.2.2.2.2.2.1) ∧ (sp_rul nr rk) ∧ (∀ c n, c < nc → n < 10 → u.2.2.2.2.2.2.2.2.2.2.2.2.2.2.2.2.2.2.2.2.2.2.2.2.2.2.2.2.1 (10 * c + n) = oI (dc c n)) ∧ (rl_lst nc u.2.2.2.2.2.2.2.2.2.2.2.2.2.2.2.2.2.2.2.1 v.2.2.2.2.2.2.2.2.2.2.2.2.2.2.2.2.2.1 v.2.2.2.2.2.2.2.2.2.2.2.2.2.2.2.2.2.2.1) ∧ (rl_run np dp u.2.2.2.2.2.2.2.2.2.2.2.2.2.2.2.2.2.2.2.2.2.2.2.2.2.2.2.2.2.2.2.2.2.2.2.2.2.2.2.2.2.2.2.2.2.2.2.2.2.2.2.2.2.2.2.1 u.2.2.2.2.2.2.2.2.2.2.2.2.2.2.2.2.2.2.2.2.2.2.2.2.2.2.2.2.2.2.2.2.2.2.2.2.2.2.2.2.2.2.2.2.2.2.2.2.2.2.2.2.2.2.2.2 v.2.2.2.2.2.2.2.2.2.2.2.2.2.2.2.2.2.2.2.2.2.2.2.2.2.2.2.2.2.2.2.2.1 v.2.2.2.2.2.2.2.2.2.2.2.2.2.2.2.2.2.2.2.2.2.2.2.2.2.2.2.2.2.2.2.2.2.1) ∧ (u.2.2.2.2.2.2.2.2.2.1 = 0 ∨ u.2.2.2.2.2.2.2.2.2.1 = 1 ∧ v.2.2.2.2.1 = u.2.2.2.1 ∧ v.2.2.2.2.2.2.2.1 = u.2.2.2.2.2.2.1 ∧ (v.2.2.2.2.2.2.1 ||| v.2.2.2.2.2.2.2.1) = (u.2.2.2.2.2.2.1 ||| u.2.2.2.2.2.1) ∧ rl_B nc nm pa hm ln op cl nn u.2.2.2.2.2.2.2.2.2.2.2.2.2.2.2.2.2.1 u.2.2.2.2.2.2.2.2.2.2.2.2.2.2.2.2.2.2.2.2.1 u.2.2.2.2.2.2.2.2.2.2.2.2.2.2.2.2.2.2.2.2.2.2.2.1 u.2.2.2.2.2.2.2.2.2.2.2.2.2.2.2.2.2.2.2.2.2.2.2.2.2.2.2.1 dc u.2.2.2.1 (u.2.2.2.2.2.2.1 ||| u.2.2.2.2.2.1) u.2.2.2.2.2.2.1 u.2.2.2.2.2.2.2.2.2.2.2.2.2.2.2.2.2.2.2.2.2.2.2.2.2.2.2.2.2.1 u.2.2.2.2.2.2.2.2.2.2.2.2.2.2.2.2.2.2.2.2.2.2.2.2.2.2.2.2.2.2.2.2.2.2.2.2.1 u.2.2.2.2.2.2.2.2.2.2.2.2.2.2.2.2.2.2.2.2.2.2.2.2.2.2.2.2.2.2.2.2.2.2.2.2.2.1 u.2.2.2.2.2.2.2.2.2.2.2.2.2.2.2.2.2.2.2.2.2.2.2.2.2.2.2.2.2.2.2.2.2.2.2.2.2.2.2.2.1 u.2.2.2.2.2.2.2.2.2.2.2.2.2.2.2.2.2.2.2.2.2.2.2.2.2.2.2.2.2.2.2.2.2.2.2.2.2.2.2.2.2.2.1 u.2.2.2.2.2.2.2.2.2.2.2.2.2.2.2.2.2.2.2.2.2.2.2.2.2.2.2.2.2.2.2.2.2.2.2.2.2.2.2.2.2.2.2.1 u.2.2.2.2.2.2.2.2.2.2.2.2.2.2.2.2.2.2.2.2.2.2.2.2.2.2.2.2.2.2.2.2.2.2.2.2.2.2.2.2.2.2.2.2.1 u.2.2.2.2.2.2.2.2.2.2.2.2.2.2.2.2.2.2.2.2.2.2.2.2.2.2.2.2.2.2.2.2.2.2.2.2.2.2.2.2.2.2.2.2.2.1 u.2.2.2.2.2.2.2.2.2.2.2.2.2.2.2.2.2.2.2.2.2.2.2.2.2.2.2.2.2.2.2.2.2.2.2.2.2.2.2.2.2.2.2.2.2.2.1 u.2.2.2.2.2.2.2.2.2.2.2.2.2.2.2.2.2.2.2.2.2.2.2.2.2.2.2.2.2.2.2.2.2.2.2.2.2.2.2.2.2.2.2.2.2.2.2.1 u.2.2.2.2.2.2.2.2.2.2.2.2.2.2.2.2.2.2.2.2.2.2.2.2.2.2.2.2.2.2.2.2.2.2.2.2.2.2.2.2.2.2.2.2.2.2.2.2.1 u.2.2.2.2.2.2.2.2.2.2.2.2.2.2.2.2.2.2.2.2.2.2.2.2.2.2.2.2.2.2.2.2.2.2.2.2.2.2.2.2.2.2.2.2.2.2.2.2.2.1 u.2.2.2.2.2.2.2.2.2.2.2.2.2.2.2.2.2.2.2.2.2.2.2.2.2.2.2.2.2.2.2.2.2.2.2.2.2.2.2.2.2.2.2.2.2.2.2.2.2.2.1 v.2.2.2.2.2.2.2.2.2.2.2.2.2.2.2.2.2.2.2.2.2.2.2.2.2.2.2.2.1 v.2.2.2.2.2.2.2.2.2.2.2.2.2.2.2.2.2.2.2.2.2.2.2.2.2.2.2.2.2.1 v.2.2.2.2.2.2.2.2.2.2.2.2.2.2.2.2.2.2.2.2.2.2.2.2.2.2.2.2.2.2.1 v.2.2.2.2.2.2.2.2.2.2.2.2.2.2.2.2.2.2.2.2.2.2.2.2.2.2.2.2.2.2.2.1)
theorem zz_el {k : Nat} {P : SX → SY → Prop} (h : ∀ (nc : Nat) (nm : Nat) (nr : Nat) (np : Nat) (dp : Nat) (pa : Nat → Option Nat) (hm : Nat → Nat) (na : Nat → Nat) (ln : Nat → Nat) (op : Nat → Nat) (rk : Nat → Nat) (cl : Nat → Nat) (nn : Nat → Nat) (dc : Nat → Nat → Option Nat) (xnd : Int32) (xmd : Int32) (xnh : Int32) (xlv : Int32) (xq : Int32) (xs : Int32) (bl : Int32) (ft : Int32) (xdp : Int32) (sp : Int32) (xss : Int32) (xsm : Int32) (fc : Nat → Int32) (xfs : Nat → Int32) (ups : Nat → Int32) (br : Nat → Int32) (ic : Nat → Int32) (ii : Nat → Int32) (xdc : Nat → Int32) (xfd : Nat → Int32) (rc : Nat → Int32) (rn : Nat → Int32) (xqu : Nat → Int32) (xwt : Nat → Int32) (xsi : Nat → Int32) (xtg : Nat → Int32) (xnw : Nat → Int32) (xfa : Nat → Int32) (xsg : Nat → Int32) (xnn : Nat → Int32) (xtk : Nat → Int32) (xrl : Nat → Int32) (bop : Nat → Int32) (bcl : Nat → Int32) (bin : Nat → Int32) (bsk : Nat → Int32) (bme : Nat → Int32) (bli : Nat → Int32) (bou : Nat → Int32) (xnf : Nat → Int32) (xfm : Nat → Int32) (xfl : Nat → Int32) (xfh : Nat → Int32) (ou : Nat → Int32) (xem : Nat → Int32) (xel : Nat → Int32) (ynd : Int32) (ymd : Int32) (ynh : Int32) (ylv : Int32) (yen : Int32) (yow : Nat → Int32) (yma : Nat → Int32) (fs : Nat → Int32) (sc : Nat → Int32) (yil : Nat → Int32) (ynu : Nat → Int32) (ynn : Nat → Int32) (yfa : Nat → Int32) (yvm : Nat → Int32) (yvl : Nat → Int32) (yvh : Nat → Int32), (sp_cls nc fc pa ups) → (sp_mth nc nm fc hm na ln br dc) → (sp_ins nm ln op cl nn ic ii fs sc) → (sp_rul nr rk) → (∀ c n, c < nc → n < 10 → xdc (10 * c + n) = oI (dc c n)) → (rl_lst nc xfs yow yma) → (rl_run np dp xem xel yvm yvl) → (bl = 0 ∨ bl = 1 ∧ ynd = xnd ∧ ylv = xlv ∧ (ynh ||| ylv) = (xlv ||| xnh) ∧ rl_B nc nm pa hm ln op cl nn fc ups br ii dc xnd (xlv ||| xnh) xlv xfd xtg xnw xnn xrl bop bcl bin bsk bme bli bou xnf yil ynu ynn yfa) → P ((nI nc), (nI nm), (nI nr), xnd, xmd, xnh, xlv, xq, xs, bl, ft, xdp, sp, xss, (nI np), (nI dp), xsm, fc, (oF pa), xfs, ups, (nF hm), (nF na), br, (nF ln), (nF op), ic, ii, xdc, xfd, (nF rk), rc, rn, xqu, xwt, xsi, xtg, xnw, xfa, xsg, xnn, xtk, xrl, bop, bcl, bin, bsk, bme, bli, bou, xnf, xfm, xfl, xfh, ou, xem, xel) ((nI nc), (nI nm), (nI nr), ft, ynd, ymd, ynh, ylv, bl, (nI dp), sp, (nI np), yen, fc, br, (oF pa), ups, yow, yma, (nF hm), (nF na), (nF ln), (nF op), fs, sc, (nF rk), rc, rn, yil, ynu, ynn, yfa, yvm, yvl, yvh, ou)) {u : SX} {v : SY} (I : i_Rel k u v) : P u v := by
  obtain ⟨nc, nm, nr, np, dp, pa, hm, na, ln, op, rk, cl, nn, dc, ex0, ex1, ex2, ex3, ex4, ex5, ex6, ex7, ex8, ex9, ex10, ey0, ey1, ey2, ey3, ey4, ey5, ey6, ey7, ey8, ey9, ey10, ey11, ey12, ey13, ey14, ey15, ey16, ey17, ey18, ey19, F0, F1, F2, F3, F4, F5, F6, F7⟩ := I
  have hu : u = ((nI nc), (nI nm), (nI nr), u.2.2.2.1, u.2.2.2.2.1, u.2.2.2.2.2.1, u.2.2.2.2.2.2.1, u.2.2.2.2.2.2.2.1, u.2.2.2.2.2.2.2.2.1, u.2.2.2.2.2.2.2.2.2.1, u.2.2.2.2.2.2.2.2.2.2.1, u.2.2.2.2.2.2.2.2.2.2.2.1, u.2.2.2.2.2.2.2.2.2.2.2.2.1, u.2.2.2.2.2.2.2.2.2.2.2.2.2.1, (nI np), (nI dp), u.2.2.2.2.2.2.2.2.2.2.2.2.2.2.2.2.1, u.2.2.2.2.2.2.2.2.2.2.2.2.2.2.2.2.2.1, (oF pa), u.2.2.2.2.2.2.2.2.2.2.2.2.2.2.2.2.2.2.2.1, u.2.2.2.2.2.2.2.2.2.2.2.2.2.2.2.2.2.2.2.2.1, (nF hm), (nF na), u.2.2.2.2.2.2.2.2.2.2.2.2.2.2.2.2.2.2.2.2.2.2.2.1, (nF ln), (nF op), u.2.2.2.2.2.2.2.2.2.2.2.2.2.2.2.2.2.2.2.2.2.2.2.2.2.2.1, u.2.2.2.2.2.2.2.2.2.2.2.2.2.2.2.2.2.2.2.2.2.2.2.2.2.2.2.1, u.2.2.2.2.2.2.2.2.2.2.2.2.2.2.2.2.2.2.2.2.2.2.2.2.2.2.2.2.1, u.2.2.2.2.2.2.2.2.2.2.2.2.2.2.2.2.2.2.2.2.2.2.2.2.2.2.2.2.2.1, (nF rk), u.2.2.2.2.2.2.2.2.2.2.2.2.2.2.2.2.2.2.2.2.2.2.2.2.2.2.2.2.2.2.2.1, u.2.2.2.2.2.2.2.2.2.2.2.2.2.2.2.2.2.2.2.2.2.2.2.2.2.2.2.2.2.2.2.2.1, u.2.2.2.2.2.2.2.2.2.2.2.2.2.2.2.2.2.2.2.2.2.2.2.2.2.2.2.2.2.2.2.2.2.1, u.2.2.2.2.2.2.2.2.2.2.2.2.2.2.2.2.2.2.2.2.2.2.2.2.2.2.2.2.2.2.2.2.2.2.1, u.2.2.2.2.2.2.2.2.2.2.2.2.2.2.2.2.2.2.2.2.2.2.2.2.2.2.2.2.2.2.2.2.2.2.2.1, u.2.2.2.2.2.2.2.2.2.2.2.2.2.2.2.2.2.2.2.2.2.2.2.2.2.2.2.2.2.2.2.2.2.2.2.2.1, u.2.2.2.2.2.2.2.2.2.2.2.2.2.2.2.2.2.2.2.2.2.2.2.2.2.2.2.2.2.2.2.2.2.2.2.2.2.1, u.2.2.2.2.2.2.2.2.2.2.2.2.2.2.2.2.2.2.2.2.2.2.2.2.2.2.2.2.2.2.2.2.2.2.2.2.2.2.1, u.2.2.2.2.2.2.2.2.2.2.2.2.2.2.2.2.2.2.2.2.2.2.2.2.2.2.2.2.2.2.2.2.2.2.2.2.2.2.2.1, u.2.2.2.2.2.2.2.2.2.2.2.2.2.2.2.2.2.2.2.2.2.2.2.2.2.2.2.2.2.2.2.2.2.2.2.2.2.2.2.2.1, u.2.2.2.2.2.2.2.2.2.2.2.2.2.2.2.2.2.2.2.2.2.2.2.2.2.2.2.2.2.2.2.2.2.2.2.2.2.2.2.2.2.1, u.2.2.2.2.2.2.2.2.2.2.2.2.2.2.2.2.2.2.2.2.2.2.2.2.2.2.2.2.2.2.2.2.2.2.2.2.2.2.2.2.2.2.1, u.2.2.2.2.2.2.2.2.2.2.2.2.2.2.2.2.2.2.2.2.2.2.2.2.2.2.2.2.2.2.2.2.2.2.2.2.2.2.2.2.2.2.2.1, u.2.2.2.2.2.2.2.2.2.2.2.2.2.2.2.2.2.2.2.2.2.2.2.2.2.2.2.2.2.2.2.2.2.2.2.2.2.2.2.2.2.2.2.2.1, u.2.2.2.2.2.2.2.2.2.2.2.2.2.2.2.2.2.2.2.2.2.2.2.2.2.2.2.2.2.2.2.2.2.2.2.2.2.2.2.2.2.2.2.2.2.1, u.2.2.2.2.2.2.2.2.2.2.2.2.2.2.2.2.2.2.2.2.2.2.2.2.2.2.2.2.2.2.2.2.2.2.2.2.2.2.2.2.2.2.2.2.2.2.1, u.2.2.2.2.2.2.2.2.2.2.2.2.2.2.2.2.2.2.2.2.2.2.2.2.2.2.2.2.2.2.2.2.2.2.2.2.2.2.2.2.2.2.2.2.2.2.2.1, u.2.2.2.2.2.2.2.2.2.2.2.2.2.2.2.2.2.2.2.2.2.2.2.2.2.2.2.2.2.2.2.2.2.2.2.2.2.2.2.2.2.2.2.2.2.2.2.2.1, u.2.2.2.2.2.2.2.2.2.2.2.2.2.2.2.2.2.2.2.2.2.2.2.2.2.2.2.2.2.2.2.2.2.2.2.2.2.2.2.2.2.2.2.2.2.2.2.2.2.1, u.2.2.2.2.2.2.2.2.2.2.2.2.2.2.2.2.2.2.2.2.2.2.2.2.2.2.2.2.2.2.2.2.2.2.2.2.2.2.2.2.2.2.2.2.2.2.2.2.2.2.1, u.2.2.2.2.2.2.2.2.2.2.2.2.2.2.2.2.2.2.2.2.2.2.2.2.2.2.2.2.2.2.2.2.2.2.2.2.2.2.2.2.2.2.2.2.2.2.2.2.2.2.2.1, u.2.2.2.2.2.2.2.2.2.2.2.2.2.2.2.2.2.2.2.2.2.2.2.2.2.2.2.2.2.2.2.2.2.2.2.2.2.2.2.2.2.2.2.2.2.2.2.2.2.2.2.2.1, u.2.2.2.2.2.2.2.2.2.2.2.2.2.2.2.2.2.2.2.2.2.2.2.2.2.2.2.2.2.2.2.2.2.2.2.2.2.2.2.2.2.2.2.2.2.2.2.2.2.2.2.2.2.1, u.2.2.2.2.2.2.2.2.2.2.2.2.2.2.2.2.2.2.2.2.2.2.2.2.2.2.2.2.2.2.2.2.2.2.2.2.2.2.2.2.2.2.2.2.2.2.2.2.2.2.2.2.2.2.1, u.2.2.2.2.2.2.2.2.2.2.2.2.2.2.2.2.2.2.2.2.2.2.2.2.2.2.2.2.2.2.2.2.2.2.2.2.2.2.2.2.2.2.2.2.2.2.2.2.2.2.2.2.2.2.2.1, u.2.2.2.2.2.2.2.2.2.2.2.2.2.2.2.2.2.2.2.2.2.2.2.2.2.2.2.2.2.2.2.2.2.2.2.2.2.2.2.2.2.2.2.2.2.2.2.2.2.2.2.2.2.2.2.2) := Prod.ext ex0 (Prod.ext ex1 (Prod.ext ex2 (Prod.ext rfl (Prod.ext rfl (Prod.ext rfl (Prod.ext rfl (Prod.ext rfl (Prod.ext rfl (Prod.ext rfl (Prod.ext rfl (Prod.ext rfl (Prod.ext rfl (Prod.ext rfl (Prod.ext ex3 (Prod.ext ex4 (Prod.ext rfl (Prod.ext rfl (Prod.ext ex5 (Prod.ext rfl (Prod.ext rfl (Prod.ext ex6 (Prod.ext ex7 (Prod.ext rfl (Prod.ext ex8 (Prod.ext ex9 (Prod.ext rfl (Prod.ext rfl (Prod.ext rfl (Prod.ext rfl (Prod.ext ex10 (Prod.ext rfl (Prod.ext rfl (Prod.ext rfl (Prod.ext rfl (Prod.ext rfl (Prod.ext rfl (Prod.ext rfl (Prod.ext rfl (Prod.ext rfl (Prod.ext rfl (Prod.ext rfl (Prod.ext rfl (Prod.ext rfl (Prod.ext rfl (Prod.ext rfl (Prod.ext rfl (Prod.ext rfl (Prod.ext rfl (Prod.ext rfl (Prod.ext rfl (Prod.ext rfl (Prod.ext rfl (Prod.ext rfl (Prod.ext rfl (Prod.ext rfl rfl)))))))))))))))))))))))))))))))))))))))))))))))))))))))
  have hv : v = ((nI nc), (nI nm), (nI nr), u.2.2.2.2.2.2.2.2.2.2.1, v.2.2.2.2.1, v.2.2.2.2.2.1, v.2.2.2.2.2.2.1, v.2.2.2.2.2.2.2.1, u.2.2.2.2.2.2.2.2.2.1, (nI dp), u.2.2.2.2.2.2.2.2.2.2.2.2.1, (nI np), v.2.2.2.2.2.2.2.2.2.2.2.2.1, u.2.2.2.2.2.2.2.2.2.2.2.2.2.2.2.2.2.1, u.2.2.2.2.2.2.2.2.2.2.2.2.2.2.2.2.2.2.2.2.2.2.2.1, (oF pa), u.2.2.2.2.2.2.2.2.2.2.2.2.2.2.2.2.2.2.2.2.1, v.2.2.2.2.2.2.2.2.2.2.2.2.2.2.2.2.2.1, v.2.2.2.2.2.2.2.2.2.2.2.2.2.2.2.2.2.2.1, (nF hm), (nF na), (nF ln), (nF op), v.2.2.2.2.2.2.2.2.2.2.2.2.2.2.2.2.2.2.2.2.2.2.2.1, v.2.2.2.2.2.2.2.2.2.2.2.2.2.2.2.2.2.2.2.2.2.2.2.2.1, (nF rk), u.2.2.2.2.2.2.2.2.2.2.2.2.2.2.2.2.2.2.2.2.2.2.2.2.2.2.2.2.2.2.2.1, u.2.2.2.2.2.2.2.2.2.2.2.2.2.2.2.2.2.2.2.2.2.2.2.2.2.2.2.2.2.2.2.2.1, v.2.2.2.2.2.2.2.2.2.2.2.2.2.2.2.2.2.2.2.2.2.2.2.2.2.2.2.2.1, v.2.2.2.2.2.2.2.2.2.2.2.2.2.2.2.2.2.2.2.2.2.2.2.2.2.2.2.2.2.1, v.2.2.2.2.2.2.2.2.2.2.2.2.2.2.2.2.2.2.2.2.2.2.2.2.2.2.2.2.2.2.1, v.2.2.2.2.2.2.2.2.2.2.2.2.2.2.2.2.2.2.2.2.2.2.2.2.2.2.2.2.2.2.2.1, v.2.2.2.2.2.2.2.2.2.2.2.2.2.2.2.2.2.2.2.2.2.2.2.2.2.2.2.2.2.2.2.2.1, v.2.2.2.2.2.2.2.2.2.2.2.2.2.2.2.2.2.2.2.2.2.2.2.2.2.2.2.2.2.2.2.2.2.1, v.2.2.2.2.2.2.2.2.2.2.2.2.2.2.2.2.2.2.2.2.2.2.2.2.2.2.2.2.2.2.2.2.2.2.1, u.2.2.2.2.2.2.2.2.2.2.2.2.2.2.2.2.2.2.2.2.2.2.2.2.2.2.2.2.2.2.2.2.2.2.2.2.2.2.2.2.2.2.2.2.2.2.2.2.2.2.2.2.2.2.1) := Prod.ext ey0 (Prod.ext ey1 (Prod.ext ey2 (Prod.ext ey3 (Prod.ext rfl (Prod.ext rfl (Prod.ext rfl (Prod.ext rfl (Prod.ext ey4 (Prod.ext ey5 (Prod.ext ey6 (Prod.ext ey7 (Prod.ext rfl (Prod.ext ey8 (Prod.ext ey9 (Prod.ext ey10 (Prod.ext ey11 (Prod.ext rfl (Prod.ext rfl (Prod.ext ey12 (Prod.ext ey13 (Prod.ext ey14 (Prod.ext ey15 (Prod.ext rfl (Prod.ext rfl (Prod.ext ey16 (Prod.ext ey17 (Prod.ext ey18 (Prod.ext rfl (Prod.ext rfl (Prod.ext rfl (Prod.ext rfl (Prod.ext rfl (Prod.ext rfl (Prod.ext rfl (ey19)))))))))))))))))))))))))))))))))))
  have key := h nc nm nr np dp pa hm na ln op rk cl nn dc (u.2.2.2.1) (u.2.2.2.2.1) (u.2.2.2.2.2.1) (u.2.2.2.2.2.2.1) (u.2.2.2.2.2.2.2.1) (u.2.2.2.2.2.2.2.2.1) (u.2.2.2.2.2.2.2.2.2.1) (u.2.2.2.2.2.2.2.2.2.2.1) (u.2.2.2.2.2.2.2.2.2.2.2.1) (u.2.2.2.2.2.2.2.2.2.2.2.2.1) (u.2.2.2.2.2.2.2.2.2.2.2.2.2.1) (u.2.2.2.2.2.2.2.2.2.2.2.2.2.2.2.2.1) (u.2.2.2.2.2.2.2.2.2.2.2.2.2.2.2.2.2.1) (u.2.2.2.2.2.2.2.2.2.2.2.2.2.2.2.2.2.2.2.1) (u.2.2.2.2.2.2.2.2.2.2.2.2.2.2.2.2.2.2.2.2.1) (u.2.2.2.2.2.2.2.2.2.2.2.2.2.2.2.2.2.2.2.2.2.2.2.1) (u.2.2.2.2.2.2.2.2.2.2.2.2.2.2.2.2.2.2.2.2.2.2.2.2.2.2.1) (u.2.2.2.2.2.2.2.2.2.2.2.2.2.2.2.2.2.2.2.2.2.2.2.2.2.2.2.1) (u.2.2.2.2.2.2.2.2.2.2.2.2.2.2.2.2.2.2.2.2.2.2.2.2.2.2.2.2.1) (u.2.2.2.2.2.2.2.2.2.2.2.2.2.2.2.2.2.2.2.2.2.2.2.2.2.2.2.2.2.1) (u.2.2.2.2.2.2.2.2.2.2.2.2.2.2.2.2.2.2.2.2.2.2.2.2.2.2.2.2.2.2.2.1) (u.2.2.2.2.2.2.2.2.2.2.2.2.2.2.2.2.2.2.2.2.2.2.2.2.2.2.2.2.2.2.2.2.1) (u.2.2.2.2.2.2.2.2.2.2.2.2.2.2.2.2.2.2.2.2.2.2.2.2.2.2.2.2.2.2.2.2.2.1) (u.2.2.2.2.2.2.2.2.2.2.2.2.2.2.2.2.2.2.2.2.2.2.2.2.2.2.2.2.2.2.2.2.2.2.1) (u.2.2.2.2.2.2.2.2.2.2.2.2.2.2.2.2.2.2.2.2.2.2.2.2.2.2.2.2.2.2.2.2.2.2.2.1) (u.2.2.2.2.2.2.2.2.2.2.2.2.2.2.2.2.2.2.2.2.2.2.2.2.2.2.2.2.2.2.2.2.2.2.2.2.1) (u.2.2.2.2.2.2.2.2.2.2.2.2.2.2.2.2.2.2.2.2.2.2.2.2.2.2.2.2.2.2.2.2.2.2.2.2.2.1) (u.2.2.2.2.2.2.2.2.2.2.2.2.2.2.2.2.2.2.2.2.2.2.2.2.2.2.2.2.2.2.2.2.2.2.2.2.2.2.1) (u.2.2.2.2.2.2.2.2.2.2.2.2.2.2.2.2.2.2.2.2.2.2.2.2.2.2.2.2.2.2.2.2.2.2.2.2.2.2.2.1) (u.2.2.2.2.2.2.2.2.2.2.2.2.2.2.2.2.2.2.2.2.2.2.2.2.2.2.2.2.2.2.2.2.2.2.2.2.2.2.2.2.1) (u.2.2.2.2.2.2.2.2.2.2.2.2.2.2.2.2.2.2.2.2.2.2.2.2.2.2.2.2.2.2.2.2.2.2.2.2.2.2.2.2.2.1) (u.2.2.2.2.2.2.2.2.2.2.2.2.2.2.2.2.2.2.2.2.2.2.2.2.2.2.2.2.2.2.2.2.2.2.2.2.2.2.2.2.2.2.1) (u.2.2.2.2.2.2.2.2.2.2.2.2.2.2.2.2.2.2.2.2.2.2.2.2.2.2.2.2.2.2.2.2.2.2.2.2.2.2.2.2.2.2.2.1) (u.2.2.2.2.2.2.2.2.2.2.2.2.2.2.2.2.2.2.2.2.2.2.2.2.2.2.2.2.2.2.2.2.2.2.2.2.2.2.2.2.2.2.2.2.1) (u.2.2.2.2.2.2.2.2.2.2.2.2.2.2.2.2.2.2.2.2.2.2.2.2.2.2.2.2.2.2.2.2.2.2.2.2.2.2.2.2.2.2.2.2.2.1) (u.2.2.2.2.2.2.2.2.2.2.2.2.2.2.2.2.2.2.2.2.2.2.2.2.2.2.2.2.2.2.2.2.2.2.2.2.2.2.2.2.2.2.2.2.2.2.1) (u.2.2.2.2.2.2.2.2.2.2.2.2.2.2.2.2.2.2.2.2.2.2.2.2.2.2.2.2.2.2.2.2.2.2.2.2.2.2.2.2.2.2.2.2.2.2.2.1) (u.2.2.2.2.2.2.2.2.2.2.2.2.2.2.2.2.2.2.2.2.2.2.2.2.2.2.2.2.2.2.2.2.2.2.2.2.2.2.2.2.2.2.2.2.2.2.2.2.1) (u.2.2.2.2.2.2.2.2.2.2.2.2.2.2.2.2.2.2.2.2.2.2.2.2.2.2.2.2.2.2.2.2.2.2.2.2.2.2.2.2.2.2.2.2.2.2.2.2.2.1) (u.2.2.2.2.2.2.2.2.2.2.2.2.2.2.2.2.2.2.2.2.2.2.2.2.2.2.2.2.2.2.2.2.2.2.2.2.2.2.2.2.2.2.2.2.2.2.2.2.2.2.1) (u.2.2.2.2.2.2.2.2.2.2.2.2.2.2.2.2.2.2.2.2.2.2.2.2.2.2.2.2.2.2.2.2.2.2.2.2.2.2.2.2.2.2.2.2.2.2.2.2.2.2.2.1) (u.2.2.2.2.2.2.2.2.2.2.2.2.2.2.2.2.2.2.2.2.2.2.2.2.2.2.2.2.2.2.2.2.2.2.2.2.2.2.2.2.2.2.2.2.2.2.2.2.2.2.2.2.1) (u.2.2.2.2.2.2.2.2.2.2.2.2.2.2.2.2.2.2.2.2.2.2.2.2.2.2.2.2.2.2.2.2.2.2.2.2.2.2.2.2.2.2.2.2.2.2.2.2.2.2.2.2.2.1) (u.2.2.2.2.2.2.2.2.2.2.2.2.2.2.2.2.2.2.2.2.2.2.2.2.2.2.2.2.2.2.2.2.2.2.2.2.2.2.2.2.2.2.2.2.2.2.2.2.2.2.2.2.2.2.1) (u.2.2.2.2.2.2.2.2.2.2.2.2.2.2.2.2.2.2.2.2.2.2.2.2.2.2.2.2.2.2.2.2.2.2.2.2.2.2.2.2.2.2.2.2.2.2.2.2.2.2.2.2.2.2.2.1) (u.2.2.2.2.2.2.2.2.2.2.2.2.2.2.2.2.2.2.2.2.2.2.2.2.2.2.2.2.2.2.2.2.2.2.2.2.2.2.2.2.2.2.2.2.2.2.2.2.2.2.2.2.2.2.2.2) (v.2.2.2.2.1) (v.2.2.2.2.2.1) (v.2.2.2.2.2.2.1) (v.2.2.2.2.2.2.2.1) (v.2.2.2.2.2.2.2.2.2.2.2.2.1) (v.2.2.2.2.2.2.2.2.2.2.2.2.2.2.2.2.2.1) (v.2.2.2.2.2.2.2.2.2.2.2.2.2.2.2.2.2.2.1) (v.2.2.2.2.2.2.2.2.2.2.2.2.2.2.2.2.2.2.2.2.2.2.2.1) (v.2.2.2.2.2.2.2.2.2.2.2.2.2.2.2.2.2.2.2.2.2.2.2.2.1) (v.2.2.2.2.2.2.2.2.2.2.2.2.2.2.2.2.2.2.2.2.2.2.2.2.2.2.2.2.1) (v.2.2.2.2.2.2.2.2.2.2.2.2.2.2.2.2.2.2.2.2.2.2.2.2.2.2.2.2.2.1) (v.2.2.2.2.2.2.2.2.2.2.2.2.2.2.2.2.2.2.2.2.2.2.2.2.2.2.2.2.2.2.1) (v.2.2.2.2.2.2.2.2.2.2.2.2.2.2.2.2.2.2.2.2.2.2.2.2.2.2.2.2.2.2.2.1) (v.2.2.2.2.2.2.2.2.2.2.2.2.2.2.2.2.2.2.2.2.2.2.2.2.2.2.2.2.2.2.2.2.1) (v.2.2.2.2.2.2.2.2.2.2.2.2.2.2.2.2.2.2.2.2.2.2.2.2.2.2.2.2.2.2.2.2.2.1) (v.2.2.2.2.2.2.2.2.2.2.2.2.2.2.2.2.2.2.2.2.2.2.2.2.2.2.2.2.2.2.2.2.2.2.1) F0 F1 F2 F3 F4 F5 F6 F7
  exact Eq.subst (motive := fun x => P x v) hu.symm (Eq.subst (motive := fun y => P ((nI nc), (nI nm), (nI nr), u.2.2.2.1, u.2.2.2.2.1, u.2.2.2.2.2.1, u.2.2.2.2.2.2.1, u.2.2.2.2.2.2.2.1, u.2.2.2.2.2.2.2.2.1, u.2.2.2.2.2.2.2.2.2.1, u.2.2.2.2.2.2.2.2.2.2.1, u.2.2.2.2.2.2.2.2.2.2.2.1, u.2.2.2.2.2.2.2.2.2.2.2.2.1, u.2.2.2.2.2.2.2.2.2.2.2.2.2.1, (nI np), (nI dp), u.2.2.2.2.2.2.2.2.2.2.2.2.2.2.2.2.1, u.2.2.2.2.2.2.2.2.2.2.2.2.2.2.2.2.2.1, (oF pa), u.2.2.2.2.2.2.2.2.2.2.2.2.2.2.2.2.2.2.2.1, u.2.2.2.2.2.2.2.2.2.2.2.2.2.2.2.2.2.2.2.2.1, (nF hm), (nF na), u.2.2.2.2.2.2.2.2.2.2.2.2.2.2.2.2.2.2.2.2.2.2.2.1, (nF ln), (nF op), u.2.2.2.2.2.2.2.2.2.2.2.2.2.2.2.2.2.2.2.2.2.2.2.2.2.2.1, u.2.2.2.2.2.2.2.2.2.2.2.2.2.2.2.2.2.2.2.2.2.2.2.2.2.2.2.1, u.2.2.2.2.2.2.2.2.2.2.2.2.2.2.2.2.2.2.2.2.2.2.2.2.2.2.2.2.1, u.2.2.2.2.2.2.2.2.2.2.2.2.2.2.2.2.2.2.2.2.2.2.2.2.2.2.2.2.2.1, (nF rk), u.2.2.2.2.2.2.2.2.2.2.2.2.2.2.2.2.2.2.2.2.2.2.2.2.2.2.2.2.2.2.2.1, u.2.2.2.2.2.2.2.2.2.2.2.2.2.2.2.2.2.2.2.2.2.2.2.2.2.2.2.2.2.2.2.2.1, u.2.2.2.2.2.2.2.2.2.2.2.2.2.2.2.2.2.2.2.2.2.2.2.2.2.2.2.2.2.2.2.2.2.1, u.2.2.2.2.2.2.2.2.2.2.2.2.2.2.2.2.2.2.2.2.2.2.2.2.2.2.2.2.2.2.2.2.2.2.1, u.2.2.2.2.2.2.2.2.2.2.2.2.2.2.2.2.2.2.2.2.2.2.2.2.2.2.2.2.2.2.2.2.2.2.2.1, u.2.2.2.2.2.2.2.2.2.2.2.2.2.2.2.2.2.2.2.2.2.2.2.2.2.2.2.2.2.2.2.2.2.2.2.2.1, u.2.2.2.2.2.2.2.2.2.2.2.2.2.2.2.2.2.2.2.2.2.2.2.2.2.2.2.2.2.2.2.2.2.2.2.2.2.1, u.2.2.2.2.2.2.2.2.2.2.2.2.2.2.2.2.2.2.2.2.2.2.2.2.2.2.2.2.2.2.2.2.2.2.2.2.2.2.1, u.2.2.2.2.2.2.2.2.2.2.2.2.2.2.2.2.2.2.2.2.2.2.2.2.2.2.2.2.2.2.2.2.2.2.2.2.2.2.2.1, u.2.2.2.2.2.2.2.2.2.2.2.2.2.2.2.2.2.2.2.2.2.2.2.2.2.2.2.2.2.2.2.2.2.2.2.2.2.2.2.2.1, u.2.2.2.2.2.2.2.2.2.2.2.2.2.2.2.2.2.2.2.2.2.2.2.2.2.2.2.2.2.2.2.2.2.2.2.2.2.2.2.2.2.1, u.2.2.2.2.2.2.2.2.2.2.2.2.2.2.2.2.2.2.2.2.2.2.2.2.2.2.2.2.2.2.2.2.2.2.2.2.2.2.2.2.2.2.1, u.2.2.2.2.2.2.2.2.2.2.2.2.2.2.2.2.2.2.2.2.2.2.2.2.2.2.2.2.2.2.2.2.2.2.2.2.2.2.2.2.2.2.2.1, u.2.2.2.2.2.2.2.2.2.2.2.2.2.2.2.2.2.2.2.2.2.2.2.2.2.2.2.2.2.2.2.2.2.2.2.2.2.2.2.2.2.2.2.2.1, u.2.2.2.2.2.2.2.2.2.2.2.2.2.2.2.2.2.2.2.2.2.2.2.2.2.2.2.2.2.2.2.2.2.2.2.2.2.2.2.2.2.2.2.2.2.1, u.2.2.2.2.2.2.2.2.2.2.2.2.2.2.2.2.2.2.2.2.2.2.2.2.2.2.2.2.2.2.2.2.2.2.2.2.2.2.2.2.2.2.2.2.2.2.1, u.2.2.2.2.2.2.2.2.2.2.2.2.2.2.2.2.2.2.2.2.2.2.2.2.2.2.2.2.2.2.2.2.2.2.2.2.2.2.2.2.2.2.2.2.2.2.2.1, u.2.2.2.2.2.2.2.2.2.2.2.2.2.2.2.2.2.2.2.2.2.2.2.2.2.2.2.2.2.2.2.2.2.2.2.2.2.2.2.2.2.2.2.2.2.2.2.2.1, u.2.2.2.2.2.2.2.2.2.2.2.2.2.2.2.2.2.2.2.2.2.2.2.2.2.2.2.2.2.2.2.2.2.2.2.2.2.2.2.2.2.2.2.2.2.2.2.2.2.1, u.2.2.2.2.2.2.2.2.2.2.2.2.2.2.2.2.2.2.2.2.2.2.2.2.2.2.2.2.2.2.2.2.2.2.2.2.2.2.2.2.2.2.2.2.2.2.2.2.2.2.1, u.2.2.2.2.2.2.2.2.2.2.2.2.2.2.2.2.2.2.2.2.2.2.2.2.2.2.2.2.2.2.2.2.2.2.2.2.2.2.2.2.2.2.2.2.2.2.2.2.2.2.2.1, u.2.2.2.2.2.2.2.2.2.2.2.2.2.2.2.2.2.2.2.2.2.2.2.2.2.2.2.2.2.2.2.2.2.2.2.2.2.2.2.2.2.2.2.2.2.2.2.2.2.2.2.2.1, u.2.2.2.2.2.2.2.2.2.2.2.2.2.2.2.2.2.2.2.2.2.2.2.2.2.2.2.2.2.2.2.2.2.2.2.2.2.2.2.2.2.2.2.2.2.2.2.2.2.2.2.2.2.1, u.2.2.2.2.2.2.2.2.2.2.2.2.2.2.2.2.2.2.2.2.2.2.2.2.2.2.2.2.2.2.2.2.2.2.2.2.2.2.2.2.2.2.2.2.2.2.2.2.2.2.2.2.2.2.1, u.2.2.2.2.2.2.2.2.2.2.2.2.2.2.2.2.2.2.2.2.2.2.2.2.2.2.2.2.2.2.2.2.2.2.2.2.2.2.2.2.2.2.2.2.2.2.2.2.2.2.2.2.2.2.2.1, u.2.2.2.2.2.2.2.2.2.2.2.2.2.2.2.2.2.2.2.2.2.2.2.2.2.2.2.2.2.2.2.2.2.2.2.2.2.2.2.2.2.2.2.2.2.2.2.2.2.2.2.2.2.2.2.2) y) hv.symm key)
theorem zz_in {k : Nat} {nc : Nat} {nm : Nat} {nr : Nat} {np : Nat} {dp : Nat} {pa : Nat → Option Nat} {hm : Nat → Nat} {na : Nat → Nat} {ln : Nat → Nat} {op : Nat → Nat} {rk : Nat → Nat} {cl : Nat → Nat} {nn : Nat → Nat} {dc : Nat → Nat → Option Nat} {xnd : Int32} {xmd : Int32} {xnh : Int32} {xlv : Int32} {xq : Int32} {xs : Int32} {bl : Int32} {ft : Int32} {xdp : Int32} {sp : Int32} {xss : Int32} {xsm : Int32} {fc : Nat → Int32} {xfs : Nat → Int32} {ups : Nat → Int32} {br : Nat → Int32} {ic : Nat → Int32} {ii : Nat → Int32} {xdc : Nat → Int32} {xfd : Nat → Int32} {rc : Nat → Int32} {rn : Nat → Int32} {xqu : Nat → Int32} {xwt : Nat → Int32} {xsi : Nat → Int32} {xtg : Nat → Int32} {xnw : Nat → Int32} {xfa : Nat → Int32} {xsg : Nat → Int32} {xnn : Nat → Int32} {xtk : Nat → Int32} {xrl : Nat → Int32} {bop : Nat → Int32} {bcl : Nat → Int32} {bin : Nat → Int32} {bsk : Nat → Int32} {bme : Nat → Int32} {bli : Nat → Int32} {bou : Nat → Int32} {xnf : Nat → Int32} {xfm : Nat → Int32} {xfl : Nat → Int32} {xfh : Nat → Int32} {ou : Nat → Int32} {xem : Nat → Int32} {xel : Nat → Int32} {ynd : Int32} {ymd : Int32} {ynh : Int32} {ylv : Int32} {yen : Int32} {yow : Nat → Int32} {yma : Nat → Int32} {fs : Nat → Int32} {sc : Nat → Int32} {yil : Nat → Int32} {ynu : Nat → Int32} {ynn : Nat → Int32} {yfa : Nat → Int32} {yvm : Nat → Int32} {yvl : Nat → Int32} {yvh : Nat → Int32} (F0 : sp_cls nc fc pa ups) (F1 : sp_mth nc nm fc hm na ln br dc) (F2 : sp_ins nm ln op cl nn ic ii fs sc) (F3 : sp_rul nr rk) (F4 : ∀ c n, c < nc → n < 10 → xdc (10 * c + n) = oI (dc c n)) (F5 : rl_lst nc xfs yow yma) (F6 : rl_run np dp xem xel yvm yvl) (F7 : bl = 0 ∨ bl = 1 ∧ ynd = xnd ∧ ylv = xlv ∧ (ynh ||| ylv) = (xlv ||| xnh) ∧ rl_B nc nm pa hm ln op cl nn fc ups br ii dc xnd (xlv ||| xnh) xlv xfd xtg xnw xnn xrl bop bcl bin bsk bme bli bou xnf yil ynu ynn yfa) : i_Rel k ((nI nc), (nI nm), (nI nr), xnd, xmd, xnh, xlv, xq, xs, bl, ft, xdp, sp, xss, (nI np), (nI dp), xsm, fc, (oF pa), xfs, ups, (nF hm), (nF na), br, (nF ln), (nF op), ic, ii, xdc, xfd, (nF rk), rc, rn, xqu, xwt, xsi, xtg, xnw, xfa, xsg, xnn, xtk, xrl, bop, bcl, bin, bsk, bme, bli, bou, xnf, xfm, xfl, xfh, ou, xem, xel) ((nI nc), (nI nm), (nI nr), ft, ynd, ymd, ynh, ylv, bl, (nI dp), sp, (nI np), yen, fc, br, (oF pa), ups, yow, yma, (nF hm), (nF na), (nF ln), (nF op), fs, sc, (nF rk), rc, rn, yil, ynu, ynn, yfa, yvm, yvl, yvh, ou) :=
  ⟨nc, nm, nr, np, dp, pa, hm, na, ln, op, rk, cl, nn, dc, rfl, rfl, rfl, rfl, rfl, rfl, rfl, rfl, rfl, rfl, rfl, rfl, rfl, rfl, rfl, rfl, rfl, rfl, rfl, rfl, rfl, rfl, rfl, rfl, rfl, rfl, rfl, rfl, rfl, rfl, rfl, F0, F1, F2, F3, F4, F5, F6, F7⟩
-- intro nc nm nr np dp pa hm na ln op rk cl nn dc xnd xmd xnh xlv xq xs bl ft xdp sp xss xsm fc xfs ups br ic ii xdc xfd rc rn xqu xwt xsi xtg xnw xfa xsg xnn xtk xrl bop bcl bin bsk bme bli bou xnf xfm xfl xfh ou xem xel ynd ymd ynh ylv yen yow yma fs sc yil ynu ynn yfa yvm yvl yvh F0 F1 F2 F3 F4 F5 F6 F7
theorem i_up {k : Nat} {u : SX} {v : SY} (h : i_Rel k u v) : i_Rel (k + 5) u v := h
end
section
/-! the answers that change nothing: place, renamed, stays, state, out, trace; the start -/
theorem xw_t {x y : Int32} {A B : Prop} (h : 0 ≤ x ∧ x < y) (b : B) : wpX_within (fun r => (r = 0 → A) ∧ (¬ r = 0 → B)) x y := xw_b (fun z => absurd h z) (fun _ => b)
theorem xw_f {x y : Int32} {A B : Prop} (h : ¬ (0 ≤ x ∧ x < y)) (a : A) : wpX_within (fun r => (r = 0 → A) ∧ (¬ r = 0 → B)) x y := xw_b (fun _ => a) (fun z => absurd z h)
theorem yw_t {x y : Int32} {A B : Prop} (h : 0 ≤ x ∧ x < y) (b : B) : wpY_in (fun r => (r = 0 → A) ∧ (¬ r = 0 → B)) x y := yw_b (fun z => absurd h z) (fun _ => b)
theorem yw_f {x y : Int32} {A B : Prop} (h : ¬ (0 ≤ x ∧ x < y)) (a : A) : wpY_in (fun r => (r = 0 → A) ∧ (¬ r = 0 → B)) x y := yw_b (fun _ => a) (fun z => absurd z h)
theorem i_vc0 : wpX_init (fun u => wpY_init (fun v => i_Rel 0 u v)) := by
  unfold wpX_init wpY_init
  refine ⟨0, 0, 0, 0, 0, fun _ => some 0, fun _ => 0, fun _ => 0, fun _ => 0, fun _ => 0, fun _ => 0, fun _ => 0, fun _ => 0, fun _ _ => none, rfl, rfl, rfl, rfl, rfl, rfl, rfl, rfl, rfl, rfl, rfl, rfl, rfl, rfl, rfl, rfl, rfl, rfl, rfl, rfl, rfl, rfl, rfl, rfl, rfl, rfl, rfl, rfl, rfl, rfl, rfl, ?_, ?_, ?_, ?_, ?_, ?_, ?_, ?_⟩
  · exact ⟨by omega, fun c h => by omega, fun c p h => by omega, fun c h => by omega, fun c a h => by omega, fun c a h => by omega, fun c a h => by omega⟩
  · exact ⟨by omega, fun m h => by omega, fun c n m => ⟨fun h => (by cases h), fun h => by have := h.1; omega⟩⟩
  · exact fun m k h => by omega
  · exact ⟨by omega, fun r h => by omega⟩
  · exact fun c n h => by omega
  · exact fun c h => by omega
  · exact ⟨by omega, by omega, fun k h => by omega⟩
  · exact Or.inl rfl
theorem i_vc_place {k : Nat} {u : SX} {v : SY} (I : i_Rel k u v) (hk : k + 5 ≤ 2560) : wpX_place (fun r => wpY_place (fun r' => r' = r ∧ i_Rel (k + 5) u v) v) u := by
  refine zz_el (P := fun u v => wpX_place (fun r => wpY_place (fun r' => r' = r ∧ i_Rel (k + 5) u v) v) u) ?_ I
  intro nc nm nr np dp pa hm na ln op rk cl nn dc xnd xmd xnh xlv xq xs bl ft xdp sp xss xsm fc xfs ups br ic ii xdc xfd rc rn xqu xwt xsi xtg xnw xfa xsg xnn xtk xrl bop bcl bin bsk bme bli bou xnf xfm xfl xfh ou xem xel ynd ymd ynh ylv yen yow yma fs sc yil ynu ynn yfa yvm yvl yvh F0 F1 F2 F3 F4 F5 F6 F7
  exact And.intro rfl (zz_in F0 F1 F2 F3 F4 F5 F6 F7)
theorem i_vc_out {k : Nat} {u : SX} {v : SY} (I : i_Rel k u v) (hk : k + 5 ≤ 2560) (v1 : Int32) : wpX_out (fun r => wpY_out (fun r' => r' = r ∧ i_Rel (k + 5) u v) v v1) u v1 := by
  refine zz_el (P := fun u v => wpX_out (fun r => wpY_out (fun r' => r' = r ∧ i_Rel (k + 5) u v) v v1) u v1) ?_ I
  intro nc nm nr np dp pa hm na ln op rk cl nn dc xnd xmd xnh xlv xq xs bl ft xdp sp xss xsm fc xfs ups br ic ii xdc xfd rc rn xqu xwt xsi xtg xnw xfa xsg xnn xtk xrl bop bcl bin bsk bme bli bou xnf xfm xfl xfh ou xem xel ynd ymd ynh ylv yen yow yma fs sc yil ynu ynn yfa yvm yvl yvh F0 F1 F2 F3 F4 F5 F6 F7
  have Z : i_Rel (k + 5) ((nI nc), (nI nm), (nI nr), xnd, xmd, xnh, xlv, xq, xs, bl, ft, xdp, sp, xss, (nI np), (nI dp), xsm, fc, (oF pa), xfs, ups, (nF hm), (nF na), br, (nF ln), (nF op), ic, ii, xdc, xfd, (nF rk), rc, rn, xqu, xwt, xsi, xtg, xnw, xfa, xsg, xnn, xtk, xrl, bop, bcl, bin, bsk, bme, bli, bou, xnf, xfm, xfl, xfh, ou, xem, xel) ((nI nc), (nI nm), (nI nr), ft, ynd, ymd, ynh, ylv, bl, (nI dp), sp, (nI np), yen, fc, br, (oF pa), ups, yow, yma, (nF hm), (nF na), (nF ln), (nF op), fs, sc, (nF rk), rc, rn, yil, ynu, ynn, yfa, yvm, yvl, yvh, ou) := zz_in F0 F1 F2 F3 F4 F5 F6 F7
  unfold wpX_out wpY_out
  dsimp only
  have hnp := F6.1
  by_cases h : 0 ≤ v1 ∧ v1 < nI np
  · obtain ⟨j, hj, rfl⟩ := sd_w (by omega) h
    have hv : vp_in (nI j) 200 := vp_in_nI (by omega) (by decide)
    exact xw_t h ⟨hv, yw_t h ⟨hv, rfl, Z⟩⟩
  · exact xw_f h (yw_f h ⟨rfl, Z⟩)
theorem i_vc_trace {k : Nat} {u : SX} {v : SY} (I : i_Rel k u v) (hk : k + 5 ≤ 2560) (v1 : Int32) (v2 : Int32) : wpX_trace (fun r => wpY_trace (fun r' => r' = r ∧ i_Rel (k + 5) u v) v v1 v2) u v1 v2 := by
  refine zz_el (P := fun u v => wpX_trace (fun r => wpY_trace (fun r' => r' = r ∧ i_Rel (k + 5) u v) v v1 v2) u v1 v2) ?_ I
  intro nc nm nr np dp pa hm na ln op rk cl nn dc xnd xmd xnh xlv xq xs bl ft xdp sp xss xsm fc xfs ups br ic ii xdc xfd rc rn xqu xwt xsi xtg xnw xfa xsg xnn xtk xrl bop bcl bin bsk bme bli bou xnf xfm xfl xfh ou xem xel ynd ymd ynh ylv yen yow yma fs sc yil ynu ynn yfa yvm yvl yvh F0 F1 F2 F3 F4 F5 F6 F7
  have Z : i_Rel (k + 5) ((nI nc), (nI nm), (nI nr), xnd, xmd, xnh, xlv, xq, xs, bl, ft, xdp, sp, xss, (nI np), (nI dp), xsm, fc, (oF pa), xfs, ups, (nF hm), (nF na), br, (nF ln), (nF op), ic, ii, xdc, xfd, (nF rk), rc, rn, xqu, xwt, xsi, xtg, xnw, xfa, xsg, xnn, xtk, xrl, bop, bcl, bin, bsk, bme, bli, bou, xnf, xfm, xfl, xfh, ou, xem, xel) ((nI nc), (nI nm), (nI nr), ft, ynd, ymd, ynh, ylv, bl, (nI dp), sp, (nI np), yen, fc, br, (oF pa), ups, yow, yma, (nF hm), (nF na), (nF ln), (nF op), fs, sc, (nF rk), rc, rn, yil, ynu, ynn, yfa, yvm, yvl, yvh, ou) := zz_in F0 F1 F2 F3 F4 F5 F6 F7
  unfold wpX_trace wpY_trace
  dsimp only
  obtain ⟨hnp, hdp, htr⟩ := F6
  by_cases h : 0 ≤ v1 ∧ v1 < nI dp
  · obtain ⟨j, hj, rfl⟩ := sd_w (by omega) h
    obtain ⟨t1, t2⟩ := htr j hj
    have hv : vp_in (nI j) 9 := vp_in_nI (by omega) (by decide)
    have e : nI dp - 1 - nI j = nI (dp - 1 - j) := by
      obtain ⟨d, rfl⟩ : ∃ d, dp = d + 1 := ⟨dp - 1, by omega⟩
      rw [nI_pred, pk_sub (by omega), Nat.add_sub_cancel]
    have hv2 : vp_in (nI (dp - 1 - j)) 8 := vp_in_nI (by omega) (by decide)
    rw [e, nI_clamp (n := j) (by omega), nI_clamp (n := dp - 1 - j) (by omega), t1, t2]
    refine xw_t h ?_
    by_cases h2 : 0 ≤ v2 ∧ v2 < 2
    · exact xw_t h2 (br_c (fun z => ⟨hv, yw_t h (yw_t h2 (br_t z ⟨hv2, rfl, Z⟩))⟩) (fun z => ⟨hv, yw_t h (yw_t h2 (br_f z ⟨hv2, rfl, Z⟩))⟩))
    · exact xw_f h2 (yw_t h (yw_f h2 ⟨rfl, Z⟩))
  · exact xw_f h (yw_f h ⟨rfl, Z⟩)
theorem i_vc_renamed {k : Nat} {u : SX} {v : SY} (I : i_Rel k u v) (hk : k + 5 ≤ 2560) (v1 : Int32) : wpX_renamed (fun r => wpY_renamed (fun r' => r' = r ∧ i_Rel (k + 5) u v) v v1) u v1 := by
  refine zz_el (P := fun u v => wpX_renamed (fun r => wpY_renamed (fun r' => r' = r ∧ i_Rel (k + 5) u v) v v1) u v1) ?_ I
  intro nc nm nr np dp pa hm na ln op rk cl nn dc xnd xmd xnh xlv xq xs bl ft xdp sp xss xsm fc xfs ups br ic ii xdc xfd rc rn xqu xwt xsi xtg xnw xfa xsg xnn xtk xrl bop bcl bin bsk bme bli bou xnf xfm xfl xfh ou xem xel ynd ymd ynh ylv yen yow yma fs sc yil ynu ynn yfa yvm yvl yvh F0 F1 F2 F3 F4 F5 F6 F7
  have Z : i_Rel (k + 5) ((nI nc), (nI nm), (nI nr), xnd, xmd, xnh, xlv, xq, xs, bl, ft, xdp, sp, xss, (nI np), (nI dp), xsm, fc, (oF pa), xfs, ups, (nF hm), (nF na), br, (nF ln), (nF op), ic, ii, xdc, xfd, (nF rk), rc, rn, xqu, xwt, xsi, xtg, xnw, xfa, xsg, xnn, xtk, xrl, bop, bcl, bin, bsk, bme, bli, bou, xnf, xfm, xfl, xfh, ou, xem, xel) ((nI nc), (nI nm), (nI nr), ft, ynd, ymd, ynh, ylv, bl, (nI dp), sp, (nI np), yen, fc, br, (oF pa), ups, yow, yma, (nF hm), (nF na), (nF ln), (nF op), fs, sc, (nF rk), rc, rn, yil, ynu, ynn, yfa, yvm, yvl, yvh, ou) := zz_in F0 F1 F2 F3 F4 F5 F6 F7
  have h10 := F0.1
  unfold wpX_renamed wpY_renamed
  dsimp only
  rcases F7 with e | ⟨e, e1, e2, e3, B⟩
  · exact br_t e (br_t e ⟨rfl, Z⟩)
  · have hne : ¬ bl = 0 := by rw [e]; decide
    refine br_f hne ?_
    by_cases h : 0 ≤ v1 ∧ v1 < nI nc
    · obtain ⟨j, hj, rfl⟩ := sd_w (by omega) h
      have hv : vp_in (nI j) 10 := vp_in_nI (by omega) (by decide)
      obtain ⟨fd, tg, nw, N, nf, B1, B2, B3, B4, B5, B6, B7, B8, B9, B10, B11, B12, B13, B14, B15⟩ := B
      refine xw_t h ⟨hv, br_f hne (yw_t h ⟨hv, ?_, Z⟩)⟩
      rw [nI_clamp (n := j) (by omega), (B9 j hj).1, (B9 j hj).2.1]
    · exact xw_f h (br_f hne (yw_f h ⟨rfl, Z⟩))
/-! how many bits -/
theorem cn_shift {P : Nat → Prop} : ∀ N, cn P (N + 1) = b01 (P 0) + cn (fun i => P (i + 1)) N
  | 0 => by simp only [cn]; omega
  | N + 1 => by
    have h := cn_shift (P := P) N
    have e1 : cn P (N + 1 + 1) = cn P (N + 1) + b01 (P (N + 1)) := rfl
    have e2 : cn (fun i => P (i + 1)) (N + 1) = cn (fun i => P (i + 1)) N + b01 (P (N + 1)) := rfl
    omega
theorem bc_nat : ∀ N n, 0 < n → n < 2 ^ N → cn (fun i => n.testBit i = true ∧ (n - 1).testBit i = true) N + 1 = cn (fun i => n.testBit i = true) N
  | 0, n, h, h' => by omega
  | N + 1, n, h, h' => by
    rw [cn_shift, cn_shift]
    have hs : ∀ x i, Nat.testBit x (i + 1) = Nat.testBit (x / 2) i := fun x i => Nat.testBit_succ x i
    have hz : ∀ x, Nat.testBit x 0 = decide (x % 2 = 1) := fun x => Nat.testBit_zero x
    simp only [hs, hz]
    have hp : 2 ^ (N + 1) = 2 * 2 ^ N := by rw [Nat.pow_succ]; omega
    rcases Nat.mod_two_eq_zero_or_one n with e | e
    · have e1 : (n - 1) / 2 = n / 2 - 1 := by omega
      have ih := bc_nat N (n / 2) (by omega) (by omega)
      rw [e1, b01_f (by simp [e]), b01_f (by simp [e])]
      omega
    · have e1 : (n - 1) / 2 = n / 2 := by omega
      have e2 : ¬ (n - 1) % 2 = 1 := by omega
      rw [e1, b01_f (by simp [e2]), b01_t (by simp [e])]
      simp only [and_self]
      omega
theorem bt_nat (x : Int32) (i : Nat) : bt x i = x.toBitVec.toNat.testBit i := (BitVec.testBit_toNat x.toBitVec).symm
theorem bc_low {x : Int32} (h : ¬ x = 0) : cn (fun i => bt (x &&& (x - 1)) i = true) 32 + 1 = cn (fun i => bt x i = true) 32 := by
  have hn : 0 < x.toBitVec.toNat := by
    refine Nat.pos_of_ne_zero (fun z => h ?_)
    apply Int32.toBitVec_inj.mp
    exact BitVec.eq_of_toNat_eq z
  have hlt := x.toBitVec.isLt
  have e1 : (x - 1).toBitVec.toNat = x.toBitVec.toNat - 1 := by
    rw [Int32.toBitVec_sub, BitVec.toNat_sub]
    show (2 ^ 32 - 1 + x.toBitVec.toNat) % 2 ^ 32 = _
    omega
  have := bc_nat 32 x.toBitVec.toNat hn hlt
  rw [← e1] at this
  have e2 : cn (fun i => bt x i = true) 32 = cn (fun i => x.toBitVec.toNat.testBit i = true) 32 := cn_eq (fun k _ => by rw [bt_nat])
  have e3 : cn (fun i => bt (x &&& (x - 1)) i = true) 32 = cn (fun i => x.toBitVec.toNat.testBit i = true ∧ (x - 1).toBitVec.toNat.testBit i = true) 32 := cn_eq (fun k _ => by rw [b_and, Bool.and_eq_true, bt_nat, bt_nat])
  rw [e2, e3]; exact this
theorem sx_bits {post : Int32 → Prop} : ∀ fuel j (x : Int32), cn (fun i => bt x i = true) 32 < fuel → post (nI (j + cn (fun i => bt x i = true) 32)) → wX_bits_4 post fuel (nI j) x := by
  intro fuel
  induction fuel with
  | zero => intro j x h; omega
  | succ f ih =>
    intro j x h hp
    rw [wX_bits_4]
    refine br_c (fun z => ?_) (fun z => nm_r (nI_1 j) (nm_e (ih (j + 1) _ ?_ ?_)))
    · have e0 : cn (fun i => bt (0 : Int32) i = true) 32 = 0 := by
        rw [cn_eq (P := fun i => bt (0 : Int32) i = true) (Q := fun _ => False) (fun k _ => ⟨fun y => (by rw [b_0] at y; cases y), fun y => y.elim⟩), cn_F]
      rw [z, e0, Nat.add_zero] at hp
      exact hp
    · have := bc_low z; omega
    · have e := bc_low z
      have e2 : j + 1 + cn (fun i => bt (x &&& (x - 1)) i = true) 32 = j + cn (fun i => bt x i = true) 32 := by omega
      rw [e2]; exact hp
section
variable {nc nm nr : Nat} {pa : Nat → Option Nat} {hm na ln op rk cl nn : Nat → Nat} {fc ups br ic ii fs sc rc rn : Nat → Int32} {dc fd : Nat → Nat → Option Nat}
variable {xnd xmd xnh xlv xq xs xbt xft xdp xst xss xpt xtr xsm : Int32} {xfs xdc xfd xqu xwt xsi xtg xnw xfa xsg xnn xtk xrl bop bcl bin bsk bme bli bou xnf xfm xfl xfh xou xem xel : Nat → Int32}
variable {ypl ynd ymd ynh ylv ybt ydp yst yot yen : Int32} {yow yma yil ynu ynn yfa yvm yvl yvh ypu : Nat → Int32}
theorem sy_state87 {post : Int32 → Prop} {x : Int32} (hp : post (nI (cn (fun i => bt x i = true) 30))) : ∀ fuel i, i ≤ 30 → 30 - i < fuel → wY_state_87 post x (nI nc) (nI nm) (nI nr) ypl ynd ymd ynh ylv ybt ydp yst yot yen fc br (oF pa) ups yow yma (nF hm) (nF na) (nF ln) (nF op) fs sc (nF rk) rc rn yil ynu ynn yfa yvm yvl yvh ypu fuel (nI (cn (fun i => bt x i = true) i)) (nI i) := by
  intro fuel
  induction fuel with
  | zero => intro i _ h; omega
  | succ f ih =>
    intro i hi hf
    have hb := cn_le (fun i => bt x i = true) i
    rw [wY_state_87]
    refine pk_le 30 i (fun h => ?_) (fun h => yh_b (by omega) (fun hb => nm_r (nI_1 i) ?_) (fun hb => nm_r (nI_1 _) (nm_r (nI_1 i) ?_)))
    · have e : i = 30 := by omega
      rw [e]; exact hp
    · have e : cn (fun i => bt x i = true) (i + 1) = cn (fun i => bt x i = true) i := by
        simp only [cn, b01_f (show ¬ bt x i = true by rw [hb]; decide)]; omega
      have := ih (i + 1) (by omega) (by omega)
      rw [e] at this; exact this
    · have e : cn (fun i => bt x i = true) (i + 1) = cn (fun i => bt x i = true) i + 1 := by
        simp only [cn, b01_t hb]
      have := ih (i + 1) (by omega) (by omega)
      rw [e] at this; exact this
end
theorem bc_30 {x : Int32} (h : ∀ i, bt x i = true → i < 30) : cn (fun i => bt x i = true) 32 = cn (fun i => bt x i = true) 30 := by
  have h1 : ¬ bt x 30 = true := fun z => by have := h 30 z; omega
  have h2 : ¬ bt x 31 = true := fun z => by have := h 31 z; omega
  show cn (fun i => bt x i = true) 30 + b01 (bt x 30 = true) + b01 (bt x 31 = true) = _
  rw [b01_f h1, b01_f h2, Nat.add_zero]
theorem i_vc_state {k : Nat} {u : SX} {v : SY} (I : i_Rel k u v) (hk : k + 5 ≤ 2560) (v1 : Int32) : wpX_state (fun r => wpY_state (fun r' => r' = r ∧ i_Rel (k + 5) u v) v v1) u v1 := by
  refine zz_el (P := fun u v => wpX_state (fun r => wpY_state (fun r' => r' = r ∧ i_Rel (k + 5) u v) v v1) u v1) ?_ I
  intro nc nm nr np dp pa hm na ln op rk cl nn dc xnd xmd xnh xlv xq xs bl ft xdp sp xss xsm fc xfs ups br ic ii xdc xfd rc rn xqu xwt xsi xtg xnw xfa xsg xnn xtk xrl bop bcl bin bsk bme bli bou xnf xfm xfl xfh ou xem xel ynd ymd ynh ylv yen yow yma fs sc yil ynu ynn yfa yvm yvl yvh F0 F1 F2 F3 F4 F5 F6 F7
  have Z : i_Rel (k + 5) ((nI nc), (nI nm), (nI nr), xnd, xmd, xnh, xlv, xq, xs, bl, ft, xdp, sp, xss, (nI np), (nI dp), xsm, fc, (oF pa), xfs, ups, (nF hm), (nF na), br, (nF ln), (nF op), ic, ii, xdc, xfd, (nF rk), rc, rn, xqu, xwt, xsi, xtg, xnw, xfa, xsg, xnn, xtk, xrl, bop, bcl, bin, bsk, bme, bli, bou, xnf, xfm, xfl, xfh, ou, xem, xel) ((nI nc), (nI nm), (nI nr), ft, ynd, ymd, ynh, ylv, bl, (nI dp), sp, (nI np), yen, fc, br, (oF pa), ups, yow, yma, (nF hm), (nF na), (nF ln), (nF op), fs, sc, (nF rk), rc, rn, yil, ynu, ynn, yfa, yvm, yvl, yvh, ou) := zz_in F0 F1 F2 F3 F4 F5 F6 F7
  have h10 := F0.1
  have h30 := F1.1
  unfold wpX_state wpY_state
  dsimp only
  refine br_c (fun z => br_t z ⟨rfl, Z⟩) (fun z1 => br_c (fun z => br_f z1 (br_t z ⟨rfl, Z⟩)) (fun z2 => br_c (fun z => br_f z1 (br_f z2 (br_t z ⟨rfl, Z⟩))) (fun z3 => br_c (fun z => br_f z1 (br_f z2 (br_f z3 (br_t z ⟨rfl, Z⟩)))) (fun z4 => br_c (fun z => br_f z1 (br_f z2 (br_f z3 (br_f z4 (br_t z ⟨rfl, Z⟩))))) (fun z5 => br_c (fun z => ?_) (fun z6 => br_c (fun z => ?_) (fun z7 => trivial)))))))
  · rcases F7 with e | ⟨e, e1, e2, e3, B⟩
    · exact br_t e (br_f z1 (br_f z2 (br_f z3 (br_f z4 (br_f z5 (br_t z (br_t e ⟨rfl, Z⟩)))))))
    · have hne : ¬ bl = 0 := by rw [e]; decide
      obtain ⟨fd, tg, nw, N, nf, B1, B2, B3, B4, B5, B6, B7, B8, B9, B10, B11, B12, B13, B14, B15⟩ := B
      have hc := bc_30 (x := xnd) (fun i hi => by have := B4 i hi; omega)
      refine br_f hne ⟨33, sx_bits 33 0 xnd (by have := cn_le (fun i => bt xnd i = true) 32; omega) ?_⟩
      rw [Nat.zero_add, hc]
      refine br_f z1 (br_f z2 (br_f z3 (br_f z4 (br_f z5 (br_t z (br_f hne (br_t z ⟨31, ?_⟩)))))))
      rw [e1]
      exact sy_state87 (x := xnd) ⟨rfl, e1 ▸ Z⟩ 31 0 (by omega) (by omega)
  · rcases F7 with e | ⟨e, e1, e2, e3, B⟩
    · exact br_t e (br_f z1 (br_f z2 (br_f z3 (br_f z4 (br_f z5 (br_f z6 (br_t z (br_t e ⟨rfl, Z⟩))))))))
    · have hne : ¬ bl = 0 := by rw [e]; decide
      obtain ⟨fd, tg, nw, N, nf, B1, B2, B3, B4, B5, B6, B7, B8, B9, B10, B11, B12, B13, B14, B15⟩ := B
      have hc := bc_30 (x := xlv ||| xnh) (fun i hi => by have := B5 i hi; omega)
      refine br_f hne ⟨33, sx_bits 33 0 (xlv ||| xnh) (by have := cn_le (fun i => bt (xlv ||| xnh) i = true) 32; omega) ?_⟩
      rw [Nat.zero_add, hc]
      refine br_f z1 (br_f z2 (br_f z3 (br_f z4 (br_f z5 (br_f z6 (br_t z (br_f hne (br_f z6 (nm_r e3 ⟨31, ?_⟩)))))))))
      exact sy_state87 (x := xlv ||| xnh) ⟨rfl, Z⟩ 31 0 (by omega) (by omega)
end
section
/-! the program grows: its shape stays -/
section
variable {nc nm nr : Nat} {pa : Nat → Option Nat} {fc ups br ic ii fs sc : Nat → Int32} {hm na ln op rk cl nn : Nat → Nat} {dc : Nat → Nat → Option Nat}
theorem rl_type {x1 w : Int32} {o : Option Nat} (C : sp_cls nc fc pa ups) (h : nc < 10) (hx : x1 = 0 ∨ x1 = 1) (ho : o = none ∧ w = 0 ∨ ∃ p, o = some p ∧ p < nc ∧ fc p = 0 ∧ x1 = 0 ∧ w = ups p) :
    sp_cls (nc + 1) (upd fc nc x1) (uo pa nc o) (upd ups nc (((1 : Int32) <<< (nI nc &&& 31)) ||| w)) := by
  obtain ⟨c1, c2, c3, c4, c5, c6, c7⟩ := C
  have n32 : nc < 32 := by omega
  have hu : ∀ c, c < nc → upd ups nc (((1 : Int32) <<< (nI nc &&& 31)) ||| w) c = ups c := fun c hc => pk_un (by omega)
  have hf : ∀ c, c < nc → upd fc nc x1 c = fc c := fun c hc => pk_un (by omega)
  have hp : ∀ c, c < nc → uo pa nc o c = pa c := fun c hc => uo_n (by omega)
  have hbit : ∀ a, bt (upd ups nc (((1 : Int32) <<< (nI nc &&& 31)) ||| w) nc) a = true ↔ a = nc ∨ bt w a = true := by
    intro a
    rw [pk_us, b_or, b_sh1 n32, Bool.or_eq_true]
    simp
  have hw : ∀ a, bt w a = true → ∃ p, o = some p ∧ p < nc ∧ fc p = 0 ∧ x1 = 0 ∧ bt (ups p) a = true ∧ a ≤ p := by
    intro a ha
    rcases ho with ⟨_, e⟩ | ⟨p, p1, p2, p3, p4, p5⟩
    · rw [e, b_0] at ha; cases ha
    · rw [p5] at ha
      exact ⟨p, p1, p2, p3, p4, ha, (c5 p a p2 ha).1⟩
  refine ⟨by omega, fun c hc => ?_, fun c p hc e => ?_, fun c hc => ?_, fun c a hc ha => ?_, fun c a hc hf0 ha hfa => ?_, fun c a hc hf0 ha => ?_⟩
  · by_cases z : c = nc
    · rw [z, pk_us]; exact hx
    · rw [hf c (by omega)]; exact c2 c (by omega)
  · by_cases z : c = nc
    · rw [z, uo_s] at e
      rcases ho with ⟨e1, _⟩ | ⟨q, q1, q2, q3, q4, q5⟩
      · rw [e1] at e; cases e
      · rw [q1] at e; cases e
        rw [z]
        exact ⟨q2, by rw [hf p q2]; exact q3, by rw [pk_us]; exact q4, (hbit p).mpr (Or.inr (by rw [q5]; exact c4 p q2))⟩
    · rw [hp c (by omega)] at e
      obtain ⟨a1, a2, a3, a4⟩ := c3 c p (by omega) e
      exact ⟨a1, by rw [hf p (by omega)]; exact a2, by rw [hf c (by omega)]; exact a3, by rw [hu c (by omega)]; exact a4⟩
  · by_cases z : c = nc
    · rw [z]; exact (hbit nc).mpr (Or.inl rfl)
    · rw [hu c (by omega)]; exact c4 c (by omega)
  · by_cases z : c = nc
    · rw [z] at ha ⊢
      rcases (hbit a).mp ha with y | y
      · rw [y]; exact ⟨Nat.le_refl _, fun b hb => hb⟩
      · obtain ⟨p, p1, p2, p3, p4, p5, p6⟩ := hw a y
        refine ⟨by omega, fun b hb => ?_⟩
        rw [hu a (by omega)] at hb
        rcases ho with ⟨e1, _⟩ | ⟨q, q1, q2, q3, q4, q5⟩
        · rw [e1] at p1; cases p1
        · rw [q1] at p1; cases p1
          exact (hbit b).mpr (Or.inr (by rw [q5]; exact (c5 p a q2 p5).2 b hb))
    · rw [hu c (by omega)] at ha ⊢
      obtain ⟨a1, a2⟩ := c5 c a (by omega) ha
      exact ⟨a1, fun b hb => a2 b (by rw [hu a (by omega)] at hb; exact hb)⟩
  · by_cases z : c = nc
    · rw [z] at ha ⊢
      rcases (hbit a).mp ha with y | y
      · exact Or.inl y
      · obtain ⟨p, p1, p2, p3, p4, p5, p6⟩ := hw a y
        exact Or.inr ⟨p, by rw [uo_s]; exact p1, by rw [hu p p2]; exact p5⟩
    · rw [hu c (by omega)] at ha
      rw [hf c (by omega)] at hf0
      have := (c5 c a (by omega) ha).1
      rw [hf a (by omega)] at hfa
      rcases c6 c a (by omega) hf0 ha hfa with y | ⟨p, p1, p2⟩
      · exact Or.inl y
      · have := (c3 c p (by omega) p1).1
        exact Or.inr ⟨p, by rw [hp c (by omega)]; exact p1, by rw [hu p (by omega)]; exact p2⟩
  · by_cases z : c = nc
    · rw [z] at ha hf0
      rcases (hbit a).mp ha with y | y
      · rw [y]; exact hf0
      · obtain ⟨p, p1, p2, p3, p4, p5, p6⟩ := hw a y
        rw [pk_us] at hf0
        exact absurd p4 hf0
    · rw [hu c (by omega)] at ha
      rw [hf c (by omega)] at hf0
      have := (c5 c a (by omega) ha).1
      rw [hf a (by omega)]
      exact c7 c a (by omega) hf0 ha
theorem rl_typeM {x1 : Int32} (M : sp_mth nc nm fc hm na ln br dc) : sp_mth (nc + 1) nm (upd fc nc x1) hm na ln br dc := by
  refine ⟨M.1, fun m hm' => ?_, M.2.2⟩
  obtain ⟨a1, a2, a3, a4, a5⟩ := M.2.1 m hm'
  exact ⟨by omega, a2, a3, a4, fun z => a5 (by rw [pk_un (by omega)] at z; exact z)⟩
theorem rl_also {c i : Nat} (C : sp_cls (c + 1) fc pa ups) (hi : i < c) (hf : ¬ fc i = 0) : sp_cls (c + 1) fc pa (upd ups c (ups c ||| ups i)) := by
  obtain ⟨c1, c2, c3, c4, c5, c6, c7⟩ := C
  have hu : ∀ d, d < c → upd ups c (ups c ||| ups i) d = ups d := fun d hd => pk_un (by omega)
  refine ⟨c1, c2, fun d p hd e => ?_, fun d hd => ?_, fun d a hd ha => ?_, fun d a hd hf0 ha hfa => ?_, fun d a hd hf0 ha => ?_⟩
  · obtain ⟨a1, a2, a3, a4⟩ := c3 d p hd e
    refine ⟨a1, a2, a3, ?_⟩
    by_cases z : d = c
    · rw [z, pk_us]; rw [z] at a4; exact b_orl a4
    · rw [hu d (by omega)]; exact a4
  · by_cases z : d = c
    · rw [z, pk_us]; exact b_orl (c4 c (by omega))
    · rw [hu d (by omega)]; exact c4 d hd
  · by_cases z : d = c
    · rw [z] at ha ⊢
      rw [pk_us] at ha ⊢
      rcases b_ori ha with y | y
      · obtain ⟨a1, a2⟩ := c5 c a (by omega) y
        refine ⟨a1, fun b hb => ?_⟩
        by_cases w : a = c
        · rw [w, pk_us] at hb; exact hb
        · rw [hu a (by omega)] at hb; exact b_orl (a2 b hb)
      · obtain ⟨a1, a2⟩ := c5 i a (by omega) y
        refine ⟨by omega, fun b hb => ?_⟩
        rw [hu a (by omega)] at hb
        exact b_orr (a2 b hb)
    · rw [hu d (by omega)] at ha ⊢
      obtain ⟨a1, a2⟩ := c5 d a hd ha
      exact ⟨a1, fun b hb => a2 b (by rw [hu a (by omega)] at hb; exact hb)⟩
  · have old : bt (ups d) a = true → a = d ∨ ∃ p, pa d = some p ∧ bt (upd ups c (ups c ||| ups i) p) a = true := by
      intro y
      rcases c6 d a hd hf0 y hfa with w | ⟨p, p1, p2⟩
      · exact Or.inl w
      · have := (c3 d p hd p1).1
        exact Or.inr ⟨p, p1, by rw [hu p (by omega)]; exact p2⟩
    by_cases z : d = c
    · rw [z] at ha
      rw [pk_us] at ha
      rcases b_ori ha with y | y
      · exact old (by rw [z]; exact y)
      · exact absurd hfa (c7 i a (by omega) hf y)
    · rw [hu d (by omega)] at ha
      exact old ha
  · by_cases z : d = c
    · rw [z] at ha
      rw [pk_us] at ha
      rcases b_ori ha with y | y
      · exact c7 d a hd hf0 (by rw [z]; exact y)
      · exact c7 i a (by omega) hf y
    · rw [hu d (by omega)] at ha
      exact c7 d a hd hf0 ha
theorem rl_meth {c n : Nat} {x2 : Int32} (M : sp_mth nc nm fc hm na ln br dc) (h : nm < 30) (hc : c < nc) (hn : n < 10) (hx : x2 = 0 ∨ x2 = 1) (hf : ¬ fc c = 0 → ¬ x2 = 0) (hd : dc c n = none) :
    sp_mth nc (nm + 1) fc (un hm nm c) (un na nm n) (un ln nm 0) (upd br nm x2) (fun a b => if a = c ∧ b = n then some nm else dc a b) := by
  refine ⟨by omega, fun m hm' => ?_, fun a b m => ?_⟩
  · by_cases z : m = nm
    · rw [z, un_s, un_s, un_s, pk_us]
      exact ⟨hc, hn, by omega, hx, hf⟩
    · rw [un_n z, un_n z, un_n z, pk_un z]
      exact M.2.1 m (by omega)
  · show (if a = c ∧ b = n then some nm else dc a b) = some m ↔ _
    by_cases z : a = c ∧ b = n
    · rw [if_pos z]
      constructor
      · intro e
        cases e
        exact ⟨by omega, by rw [un_s]; exact z.1.symm, by rw [un_s]; exact z.2.symm⟩
      · rintro ⟨m1, m2, m3⟩
        by_cases y : m = nm
        · rw [y]
        · rw [un_n y] at m2 m3
          have := (M.2.2 a b m).mpr ⟨by omega, m2, m3⟩
          rw [z.1, z.2, hd] at this
          cases this
    · rw [if_neg z, M.2.2 a b m]
      constructor
      · rintro ⟨m1, m2, m3⟩
        exact ⟨by omega, by rw [un_n (by omega)]; exact m2, by rw [un_n (by omega)]; exact m3⟩
      · rintro ⟨m1, m2, m3⟩
        have y : m ≠ nm := fun y => z (by rw [y, un_s] at m2 m3; exact ⟨m2.symm, m3.symm⟩)
        rw [un_n y] at m2 m3
        exact ⟨by omega, m2, m3⟩
theorem rl_methI (N : sp_ins nm ln op cl nn ic ii fs sc) : sp_ins (nm + 1) (un ln nm 0) op cl nn ic ii fs sc := by
  intro m k hm' hk
  by_cases z : m = nm
  · rw [z, un_s] at hk; omega
  · rw [un_n z] at hk; exact N m k (by omega) hk
theorem rl_code {m o c n : Nat} {a b d e : Int32} (M : sp_mth nc nm fc hm na ln br dc) (N : sp_ins nm ln op cl nn ic ii fs sc) (hm' : m < nm) (hl : ln m < 6) (h : sp_in1 o c n a b d e) :
    sp_ins nm (un ln m (ln m + 1)) (un op (6 * m + ln m) o) (un cl (6 * m + ln m) c) (un nn (6 * m + ln m) n) (upd ic (6 * m + ln m) a) (upd ii (6 * m + ln m) b) (upd fs (6 * m + ln m) d) (upd sc (6 * m + ln m) e) := by
  intro x k hx hk
  by_cases z : x = m ∧ k = ln m
  · rw [z.1, z.2, un_s, un_s, un_s, pk_us, pk_us, pk_us, pk_us]
    exact h
  · have hk' : k < ln x := by
      by_cases y : x = m
      · rw [y, un_s] at hk
        have : k ≠ ln m := fun w => z ⟨y, w⟩
        rw [y]; omega
      · rw [un_n y] at hk; exact hk
    have hx6 := (M.2.1 x hx).2.2.1
    have hne : 6 * x + k ≠ 6 * m + ln m := fun w => z (by
      have : x = m := by omega
      exact ⟨this, by omega⟩)
    rw [un_n hne, un_n hne, un_n hne, pk_un hne, pk_un hne, pk_un hne, pk_un hne]
    exact N x k hx hk'
theorem rl_codeM {m : Nat} (M : sp_mth nc nm fc hm na ln br dc) (hl : ln m < 6) : sp_mth nc nm fc hm na (un ln m (ln m + 1)) br dc := by
  refine ⟨M.1, fun x hx => ?_, M.2.2⟩
  obtain ⟨a1, a2, a3, a4⟩ := M.2.1 x hx
  refine ⟨a1, a2, ?_, a4⟩
  by_cases z : x = m
  · rw [z, un_s]; omega
  · rw [un_n z]; exact a3
end
end
section
/-! the calls that write the program: type, also -/
def rl_w (ups : Nat → Int32) (o : Option Nat) : Int32 := match o with
  | none => 0
  | some p => ups p
section
variable {nc nm nr : Nat} {pa : Nat → Option Nat} {hm na ln op rk cl nn : Nat → Nat} {fc ups br ic ii fs sc rc rn : Nat → Int32} {dc fd : Nat → Nat → Option Nat}
variable {xnd xmd xnh xlv xq xs xbt xft xdp xst xss xpt xtr xsm : Int32} {xfs xdc xfd xqu xwt xsi xtg xnw xfa xsg xnn xtk xrl bop bcl bin bsk bme bli bou xnf xfm xfl xfh xou xem xel : Nat → Int32}
variable {ypl ynd ymd ynh ylv ybt ydp yst yot yen : Int32} {yow yma yil ynu ynn yfa yvm yvl yvh ypu : Nat → Int32}
theorem sx_type117 {post : Int32 → SX → Prop} {c : Nat} {dc0 : Nat → Int32} (hc : c < 10) (K : ∀ xdc : Nat → Int32, (∀ n, n < 10 → xdc (10 * c + n) = -1) → (∀ j, j < 10 * c → xdc j = dc0 j) → post (nI c) ((nI nc), (nI nm), (nI nr), xnd, xmd, xnh, xlv, xq, xs, 0, xft, xdp, xst, xss, xpt, xtr, xsm, fc, (oF pa), xfs, ups, (nF hm), (nF na), br, (nF ln), (nF op), ic, ii, xdc, xfd, (nF rk), rc, rn, xqu, xwt, xsi, xtg, xnw, xfa, xsg, xnn, xtk, xrl, bop, bcl, bin, bsk, bme, bli, bou, xnf, xfm, xfl, xfh, xou, xem, xel)) :
    ∀ fuel i (xdc : Nat → Int32), i ≤ 10 → 10 - i < fuel → (∀ n, n < i → xdc (10 * c + n) = -1) → (∀ j, j < 10 * c → xdc j = dc0 j) → wX_type_117 post (nI c) (nI nc) (nI nm) (nI nr) xnd xmd xnh xlv xq xs xbt xft xdp xst xss xpt xtr xsm fuel (nI i) fc (oF pa) xfs ups (nF hm) (nF na) br (nF ln) (nF op) ic ii xdc xfd (nF rk) rc rn xqu xwt xsi xtg xnw xfa xsg xnn xtk xrl bop bcl bin bsk bme bli bou xnf xfm xfl xfh xou xem xel := by
  intro fuel
  induction fuel with
  | zero => intro i _ _ h; omega
  | succ f ih =>
    intro i xdc hi hf h1 h2
    rw [wX_type_117]
    dsimp only
    rw [sd_x10, nI_add, nI_clamp (n := 10 * c + i) (by omega), sd_vbm]
    refine pk_le 10 i (fun h => K xdc (fun n hn => h1 n (by omega)) h2) (fun h => ⟨vp_in_nI (by omega) (by decide), nm_e (nm_r (nI_1 i) (ih (i + 1) _ (by omega) (by omega) (fun n hn => ?_) (fun j hj => ?_)))⟩)
    · by_cases z : n = i
      · rw [z, pk_us]
      · rw [pk_un (by omega)]; exact h1 n (by omega)
    · rw [pk_un (by omega)]; exact h2 j hj
theorem sx_type31 {post : Int32 → SX → Prop} {o : Option Nat} {x1 : Int32} (h10 : nc ≤ 10) (hx : x1 = 0 ∨ x1 = 1) (ho : ∀ p, o = some p → p < nc) (Kf : nc = 10 → post (-2) ((nI nc), (nI nm), (nI nr), xnd, xmd, xnh, xlv, xq, xs, xbt, xft, xdp, xst, xss, xpt, xtr, xsm, fc, (oF pa), xfs, ups, (nF hm), (nF na), br, (nF ln), (nF op), ic, ii, xdc, xfd, (nF rk), rc, rn, xqu, xwt, xsi, xtg, xnw, xfa, xsg, xnn, xtk, xrl, bop, bcl, bin, bsk, bme, bli, bou, xnf, xfm, xfl, xfh, xou, xem, xel))
    (K : nc < 10 → ∀ xdc' : Nat → Int32, (∀ n, n < 10 → xdc' (10 * nc + n) = -1) → (∀ j, j < 10 * nc → xdc' j = xdc j) → post (nI nc) ((nI (nc + 1)), (nI nm), (nI nr), xnd, xmd, xnh, xlv, xq, xs, 0, xft, xdp, xst, xss, xpt, xtr, xsm, (upd fc nc x1), (oF (uo pa nc o)), (upd (upd xfs (2 * nc) (-1)) (2 * nc + 1) (-1)), (upd ups nc (((1 : Int32) <<< (nI nc &&& 31)) ||| rl_w ups o)), (nF hm), (nF na), br, (nF ln), (nF op), ic, ii, xdc', xfd, (nF rk), rc, rn, xqu, xwt, xsi, xtg, xnw, xfa, xsg, xnn, xtk, xrl, bop, bcl, bin, bsk, bme, bli, bou, xnf, xfm, xfl, xfh, xou, xem, xel)) : wX_type_31 post x1 (oI o) (nI nc) (nI nm) (nI nr) xnd xmd xnh xlv xq xs xbt xft xdp xst xss xpt xtr xsm fc (oF pa) xfs ups (nF hm) (nF na) br (nF ln) (nF op) ic ii xdc xfd (nF rk) rc rn xqu xwt xsi xtg xnw xfa xsg xnn xtk xrl bop bcl bin bsk bme bli bou xnf xfm xfl xfh xou xem xel := by
  unfold wX_type_31
  refine pk_eq nc 10 (fun h => Kf h) (fun h => ?_)
  have hn : nc < 10 := by omega
  have hx' : vp_nar .boolean x1 = x1 := by rcases hx with e | e <;> rw [e] <;> rfl
  rw [nI_1, nI_clamp (n := nc) (by omega), sd_x2, nI_1, nI_clamp (n := 2 * nc) (by omega), nI_clamp (n := 2 * nc + 1) (by omega), sd_vbm, hx', sd_voo (fun m e => by have := ho m e; omega), oF_u]
  have hvc : vp_in (nI nc) 10 := vp_in_nI hn (by decide)
  have hv1 : vp_in (nI (2 * nc)) 20 := vp_in_nI (by omega) (by decide)
  have hv2 : vp_in (nI (2 * nc + 1)) 20 := vp_in_nI (by omega) (by decide)
  refine nm_e ⟨hvc, nm_e ⟨hvc, nm_e ⟨hv1, nm_e ⟨hv2, nm_e ?_⟩⟩⟩⟩
  cases o with
  | none =>
    refine br_f (by decide) ⟨hvc, nm_e ⟨11, ?_⟩⟩
    rw [← nI_0]
    exact sx_type117 hn (K hn) 11 0 xdc (by omega) (by omega) (fun n hn => by omega) (fun _ _ => rfl)
  | some p =>
    have hp := ho p rfl
    rw [oI_s, nI_clamp (n := p) (by omega)]
    refine br_t (nI_pos' (by omega)) ⟨vp_in_nI (by omega) (by decide), hvc, nm_e ⟨11, ?_⟩⟩
    rw [← nI_0]
    exact sx_type117 hn (K hn) 11 0 xdc (by omega) (by omega) (fun n hn => by omega) (fun _ _ => rfl)
theorem sy_type31 {post : Int32 → SY → Prop} {o : Option Nat} {x1 : Int32} (hx : x1 = 0 ∨ x1 = 1) (ho : ∀ p, o = some p → p < nc) (hn : nc < 10)
    (K : post (nI nc) ((nI (nc + 1)), (nI nm), (nI nr), ypl, ynd, ymd, ynh, ylv, 0, ydp, yst, yot, yen, (upd fc nc x1), br, (oF (uo pa nc o)), (upd ups nc (((1 : Int32) <<< (nI nc &&& 31)) ||| rl_w ups o)), (upd yow nc 0), (upd yma nc 0), (nF hm), (nF na), (nF ln), (nF op), fs, sc, (nF rk), rc, rn, yil, ynu, ynn, yfa, yvm, yvl, yvh, ypu)) : wY_type_31 post x1 (oI o) (nI nc) (nI nm) (nI nr) ypl ynd ymd ynh ylv ybt ydp yst yot yen fc br (oF pa) ups yow yma (nF hm) (nF na) (nF ln) (nF op) fs sc (nF rk) rc rn yil ynu ynn yfa yvm yvl yvh ypu := by
  unfold wY_type_31
  refine pk_eq nc 10 (fun h => by omega) (fun h => ?_)
  have hx' : vp_nar .boolean x1 = x1 := by rcases hx with e | e <;> rw [e] <;> rfl
  rw [nI_1, nI_clamp (n := nc) (by omega), hx', oF_u]
  have hvc : vp_in (nI nc) 10 := vp_in_nI hn (by decide)
  have h91 : ∀ z, z = rl_w ups o → wY_type_91 post (nI nc) z ((1 : Int32) <<< (nI nc &&& 31)) (nI nc) (nI (nc + 1)) (nI nm) (nI nr) ypl ynd ymd ynh ylv ybt ydp yst yot yen (upd fc nc x1) br (oF (uo pa nc o)) ups yow yma (nF hm) (nF na) (nF ln) (nF op) fs sc (nF rk) rc rn yil ynu ynn yfa yvm yvl yvh ypu := by
    intro z ez
    unfold wY_type_91
    rw [nI_clamp (n := nc) (by omega), ez]
    exact ⟨hvc, nm_e ⟨hvc, nm_e ⟨hvc, nm_e K⟩⟩⟩
  refine nm_e ⟨hvc, nm_e ⟨hvc, nm_e ?_⟩⟩
  cases o with
  | none => exact br_f (by decide) (h91 _ rfl)
  | some p =>
    have hp := ho p rfl
    rw [oI_s, nI_clamp (n := p) (by omega)]
    exact br_t (nI_pos' (by omega)) ⟨vp_in_nI (by omega) (by decide), h91 _ rfl⟩
end
theorem i_vc_type {k : Nat} {u : SX} {v : SY} (I : i_Rel k u v) (hk : k + 5 ≤ 2560) (v1 : Int32) (v2 : Int32) : wpX_type (fun r u' => wpY_type (fun r' v' => r' = r ∧ i_Rel (k + 5) u' v') v (lw_bz v1) v2) u (lw_bz v1) v2 := by
  refine zz_el (P := fun u v => wpX_type (fun r u' => wpY_type (fun r' v' => r' = r ∧ i_Rel (k + 5) u' v') v (lw_bz v1) v2) u (lw_bz v1) v2) ?_ I
  intro nc nm nr np dp pa hm na ln op rk cl nn dc xnd xmd xnh xlv xq xs bl ft xdp sp xss xsm fc xfs ups br ic ii xdc xfd rc rn xqu xwt xsi xtg xnw xfa xsg xnn xtk xrl bop bcl bin bsk bme bli bou xnf xfm xfl xfh ou xem xel ynd ymd ynh ylv yen yow yma fs sc yil ynu ynn yfa yvm yvl yvh F0 F1 F2 F3 F4 F5 F6 F7
  have Z : i_Rel (k + 5) ((nI nc), (nI nm), (nI nr), xnd, xmd, xnh, xlv, xq, xs, bl, ft, xdp, sp, xss, (nI np), (nI dp), xsm, fc, (oF pa), xfs, ups, (nF hm), (nF na), br, (nF ln), (nF op), ic, ii, xdc, xfd, (nF rk), rc, rn, xqu, xwt, xsi, xtg, xnw, xfa, xsg, xnn, xtk, xrl, bop, bcl, bin, bsk, bme, bli, bou, xnf, xfm, xfl, xfh, ou, xem, xel) ((nI nc), (nI nm), (nI nr), ft, ynd, ymd, ynh, ylv, bl, (nI dp), sp, (nI np), yen, fc, br, (oF pa), ups, yow, yma, (nF hm), (nF na), (nF ln), (nF op), fs, sc, (nF rk), rc, rn, yil, ynu, ynn, yfa, yvm, yvl, yvh, ou) := zz_in F0 F1 F2 F3 F4 F5 F6 F7
  have h10 := F0.1
  have hx := lw_bz_01 v1
  generalize lw_bz v1 = x1 at *
  have hgo : ∀ o : Option Nat, (∀ p, o = some p → p < nc ∧ fc p = 0 ∧ x1 = 0) → v2 = oI o → (∀ post : Int32 → SY → Prop, wY_type_31 post x1 (oI o) (nI nc) (nI nm) (nI nr) ft ynd ymd ynh ylv bl (nI dp) sp (nI np) yen fc br (oF pa) ups yow yma (nF hm) (nF na) (nF ln) (nF op) fs sc (nF rk) rc rn yil ynu ynn yfa yvm yvl yvh ou → wpY_type post ((nI nc), (nI nm), (nI nr), ft, ynd, ymd, ynh, ylv, bl, (nI dp), sp, (nI np), yen, fc, br, (oF pa), ups, yow, yma, (nF hm), (nF na), (nF ln), (nF op), fs, sc, (nF rk), rc, rn, yil, ynu, ynn, yfa, yvm, yvl, yvh, ou) x1 v2) → wX_type_31 (fun r u' => wpY_type (fun r' v' => r' = r ∧ i_Rel (k + 5) u' v') ((nI nc), (nI nm), (nI nr), ft, ynd, ymd, ynh, ylv, bl, (nI dp), sp, (nI np), yen, fc, br, (oF pa), ups, yow, yma, (nF hm), (nF na), (nF ln), (nF op), fs, sc, (nF rk), rc, rn, yil, ynu, ynn, yfa, yvm, yvl, yvh, ou) x1 v2) x1 (oI o) (nI nc) (nI nm) (nI nr) xnd xmd xnh xlv xq xs bl ft xdp sp xss (nI np) (nI dp) xsm fc (oF pa) xfs ups (nF hm) (nF na) br (nF ln) (nF op) ic ii xdc xfd (nF rk) rc rn xqu xwt xsi xtg xnw xfa xsg xnn xtk xrl bop bcl bin bsk bme bli bou xnf xfm xfl xfh ou xem xel := by
    intro o ho eo hY
    refine sx_type31 h10 hx (fun p e => (ho p e).1) (fun h => hY _ ?_) (fun h xdc' d1 d2 => hY _ (sy_type31 hx (fun p e => (ho p e).1) h ⟨rfl, ?_⟩))
    · unfold wY_type_31
      exact br_t (by rw [h]; rfl) ⟨rfl, Z⟩
    · refine zz_in (rl_type F0 h hx ?_) (rl_typeM F1) F2 F3 (fun c n hc hn => ?_) (fun c e => Or.inl ?_) F6 (Or.inl rfl)
      · cases o with
        | none => exact Or.inl ⟨rfl, rfl⟩
        | some p => obtain ⟨p1, p2, p3⟩ := ho p rfl; exact Or.inr ⟨p, rfl, p1, p2, p3, rfl⟩
      · by_cases z : c = nc
        · rw [z, d1 n hn, sp_dcn F1 (fun m hm' w => by have := (F1.2.1 m hm').1; omega)]; rfl
        · rw [d2 _ (by omega)]; exact F4 c n (by omega) hn
      · have : c = nc := by omega
        subst this
        exact ⟨by rw [pk_un (by omega), pk_us], pk_us, pk_us, pk_us⟩
  unfold wpX_type
  dsimp only
  refine br_c (fun e => ?_) (fun e => ?_)
  · rw [e]
    rw [e] at hgo
    refine hgo none (fun p e => by cases e) rfl (fun post hp => ?_)
    unfold wpY_type
    exact br_t rfl hp
  · have hBAD : (¬ (0 ≤ v2 ∧ v2 < nI nc) ∨ ∃ p, v2 = nI p ∧ p < nc ∧ (¬ fc p = 0 ∨ ¬ x1 = 0)) → wpY_type (fun r' v' => r' = (-1) ∧ i_Rel (k + 5) ((nI nc), (nI nm), (nI nr), xnd, xmd, xnh, xlv, xq, xs, bl, ft, xdp, sp, xss, (nI np), (nI dp), xsm, fc, (oF pa), xfs, ups, (nF hm), (nF na), br, (nF ln), (nF op), ic, ii, xdc, xfd, (nF rk), rc, rn, xqu, xwt, xsi, xtg, xnw, xfa, xsg, xnn, xtk, xrl, bop, bcl, bin, bsk, bme, bli, bou, xnf, xfm, xfl, xfh, ou, xem, xel) v') ((nI nc), (nI nm), (nI nr), ft, ynd, ymd, ynh, ylv, bl, (nI dp), sp, (nI np), yen, fc, br, (oF pa), ups, yow, yma, (nF hm), (nF na), (nF ln), (nF op), fs, sc, (nF rk), rc, rn, yil, ynu, ynn, yfa, yvm, yvl, yvh, ou) x1 v2 := by
      intro hh
      unfold wpY_type
      dsimp only
      refine br_f e ?_
      rcases hh with w | ⟨p, ep, p1, p2⟩
      · exact yw_f w ⟨rfl, Z⟩
      · have hw := sd_wi (n := nc) p1 (by omega)
        rw [ep]
        refine yw_t hw ⟨vp_in_nI (by omega) (by decide), ?_⟩
        rw [nI_clamp (n := p) (by omega)]
        exact br_c (fun z => br_c (fun y => absurd y (p2.elim (fun q => absurd z q) id)) (fun _ => ⟨rfl, Z⟩)) (fun _ => ⟨rfl, Z⟩)
    have hBAD2 : ¬ x1 = 0 → wpY_type (fun r' v' => r' = (-1) ∧ i_Rel (k + 5) ((nI nc), (nI nm), (nI nr), xnd, xmd, xnh, xlv, xq, xs, bl, ft, xdp, sp, xss, (nI np), (nI dp), xsm, fc, (oF pa), xfs, ups, (nF hm), (nF na), br, (nF ln), (nF op), ic, ii, xdc, xfd, (nF rk), rc, rn, xqu, xwt, xsi, xtg, xnw, xfa, xsg, xnn, xtk, xrl, bop, bcl, bin, bsk, bme, bli, bou, xnf, xfm, xfl, xfh, ou, xem, xel) v') ((nI nc), (nI nm), (nI nr), ft, ynd, ymd, ynh, ylv, bl, (nI dp), sp, (nI np), yen, fc, br, (oF pa), ups, yow, yma, (nF hm), (nF na), (nF ln), (nF op), fs, sc, (nF rk), rc, rn, yil, ynu, ynn, yfa, yvm, yvl, yvh, ou) x1 v2 := by
      intro hx1
      by_cases w : 0 ≤ v2 ∧ v2 < nI nc
      · obtain ⟨p, p1, p2⟩ := sd_w (by omega) w
        exact hBAD (Or.inr ⟨p, p2, p1, Or.inr hx1⟩)
      · exact hBAD (Or.inl w)
    refine br_c (fun hx0 => ?_) (fun hx0 => hBAD2 hx0)
    by_cases w : 0 ≤ v2 ∧ v2 < nI nc
    · refine xw_t w ?_
      obtain ⟨p, p1, p2⟩ := sd_w (by omega) w
      subst p2
      refine ⟨vp_in_nI (by omega) (by decide), ?_⟩
      rw [nI_clamp (n := p) (by omega)]
      refine br_c (fun hf => hgo (some p) (fun q e => (by cases e; exact ⟨p1, hf, hx0⟩)) rfl (fun post hp => ?_)) (fun hf => hBAD (Or.inr ⟨p, rfl, p1, Or.inl hf⟩))
      unfold wpY_type
      dsimp only
      refine br_f e (yw_t w ⟨vp_in_nI (by omega) (by decide), ?_⟩)
      rw [nI_clamp (n := p) (by omega)]
      exact br_t hf (br_t hx0 hp)
    · exact xw_f w (hBAD (Or.inl w))
section
variable {nc nm nr : Nat} {pa : Nat → Option Nat} {hm na ln op rk cl nn : Nat → Nat} {fc ups br ic ii fs sc rc rn : Nat → Int32} {dc fd : Nat → Nat → Option Nat}
variable {xnd xmd xnh xlv xq xs xbt xft xdp xst xss xpt xtr xsm : Int32} {xfs xdc xfd xqu xwt xsi xtg xnw xfa xsg xnn xtk xrl bop bcl bin bsk bme bli bou xnf xfm xfl xfh xou xem xel : Nat → Int32}
variable {ypl ynd ymd ynh ylv ybt ydp yst yot yen : Int32} {yow yma yil ynu ynn yfa yvm yvl yvh ypu : Nat → Int32}
theorem sy_alsoN {post : Int32 → SY → Prop} {c : Nat} {x : Int32} (hc : c < 10) (w : ¬ (0 ≤ x ∧ x < nI c)) (p : post 0 ((nI (c + 1)), (nI nm), (nI nr), ypl, ynd, ymd, ynh, ylv, ybt, ydp, yst, yot, yen, fc, br, (oF pa), ups, yow, yma, (nF hm), (nF na), (nF ln), (nF op), fs, sc, (nF rk), rc, rn, yil, ynu, ynn, yfa, yvm, yvl, yvh, ypu)) : wpY_also post ((nI (c + 1)), (nI nm), (nI nr), ypl, ynd, ymd, ynh, ylv, ybt, ydp, yst, yot, yen, fc, br, (oF pa), ups, yow, yma, (nF hm), (nF na), (nF ln), (nF op), fs, sc, (nF rk), rc, rn, yil, ynu, ynn, yfa, yvm, yvl, yvh, ypu) x := by
  unfold wpY_also
  dsimp only
  rw [nI_pred]
  exact nm_e (br_f (nI_pos (by omega)) (yw_f w p))
theorem sy_also {post : Int32 → SY → Prop} {c i : Nat} (hc : c < 10) (hi : i < c) (p0 : fc i = 0 → post 0 ((nI (c + 1)), (nI nm), (nI nr), ypl, ynd, ymd, ynh, ylv, ybt, ydp, yst, yot, yen, fc, br, (oF pa), ups, yow, yma, (nF hm), (nF na), (nF ln), (nF op), fs, sc, (nF rk), rc, rn, yil, ynu, ynn, yfa, yvm, yvl, yvh, ypu)) (p1 : ¬ fc i = 0 → bt (yow c) i = true → post 0 ((nI (c + 1)), (nI nm), (nI nr), ypl, ynd, ymd, ynh, ylv, ybt, ydp, yst, yot, yen, fc, br, (oF pa), ups, yow, yma, (nF hm), (nF na), (nF ln), (nF op), fs, sc, (nF rk), rc, rn, yil, ynu, ynn, yfa, yvm, yvl, yvh, ypu)) (p2 : ¬ fc i = 0 → bt (yow c) i = false → yma c = 2 → post 0 ((nI (c + 1)), (nI nm), (nI nr), ypl, ynd, ymd, ynh, ylv, ybt, ydp, yst, yot, yen, fc, br, (oF pa), ups, yow, yma, (nF hm), (nF na), (nF ln), (nF op), fs, sc, (nF rk), rc, rn, yil, ynu, ynn, yfa, yvm, yvl, yvh, ypu))
    (p3 : ¬ fc i = 0 → bt (yow c) i = false → ¬ yma c = 2 → post 1 ((nI (c + 1)), (nI nm), (nI nr), ypl, ynd, ymd, ynh, ylv, 0, ydp, yst, yot, yen, fc, br, (oF pa), (upd ups c (ups c ||| ups i)), (upd yow c (yow c ||| ((1 : Int32) <<< (nI i &&& 31)))), (upd yma c (yma c + 1)), (nF hm), (nF na), (nF ln), (nF op), fs, sc, (nF rk), rc, rn, yil, ynu, ynn, yfa, yvm, yvl, yvh, ypu)) : wpY_also post ((nI (c + 1)), (nI nm), (nI nr), ypl, ynd, ymd, ynh, ylv, ybt, ydp, yst, yot, yen, fc, br, (oF pa), ups, yow, yma, (nF hm), (nF na), (nF ln), (nF op), fs, sc, (nF rk), rc, rn, yil, ynu, ynn, yfa, yvm, yvl, yvh, ypu) (nI i) := by
  have hvi : vp_in (nI i) 10 := vp_in_nI (by omega) (by decide)
  have hvc : vp_in (nI c) 10 := vp_in_nI (by omega) (by decide)
  unfold wpY_also
  dsimp only
  rw [nI_pred, nI_clamp (n := i) (by omega)]
  refine nm_e (br_f (nI_pos (by omega)) (yw_t (sd_wi hi (by omega)) ⟨hvi, br_c p0 (fun hf => ⟨hvc, ?_⟩)⟩))
  rw [nI_clamp (n := c) (by omega)]
  exact yh_b (by omega) (fun hb => ⟨hvc, br_c (fun hm2 => p2 hf hb hm2) (fun hm2 => ⟨hvc, hvc, nm_e ⟨hvc, hvc, nm_e ⟨hvc, hvi, hvc, nm_e (p3 hf hb hm2)⟩⟩⟩)⟩) (fun hb => p1 hf hb)
end
theorem i_vc_also {k : Nat} {u : SX} {v : SY} (I : i_Rel k u v) (hk : k + 5 ≤ 2560) (v1 : Int32) : wpX_also (fun r u' => wpY_also (fun r' v' => r' = r ∧ i_Rel (k + 5) u' v') v v1) u v1 := by
  refine zz_el (P := fun u v => wpX_also (fun r u' => wpY_also (fun r' v' => r' = r ∧ i_Rel (k + 5) u' v') v v1) u v1) ?_ I
  intro nc nm nr np dp pa hm na ln op rk cl nn dc xnd xmd xnh xlv xq xs bl ft xdp sp xss xsm fc xfs ups br ic ii xdc xfd rc rn xqu xwt xsi xtg xnw xfa xsg xnn xtk xrl bop bcl bin bsk bme bli bou xnf xfm xfl xfh ou xem xel ynd ymd ynh ylv yen yow yma fs sc yil ynu ynn yfa yvm yvl yvh F0 F1 F2 F3 F4 F5 F6 F7
  have Z : i_Rel (k + 5) ((nI nc), (nI nm), (nI nr), xnd, xmd, xnh, xlv, xq, xs, bl, ft, xdp, sp, xss, (nI np), (nI dp), xsm, fc, (oF pa), xfs, ups, (nF hm), (nF na), br, (nF ln), (nF op), ic, ii, xdc, xfd, (nF rk), rc, rn, xqu, xwt, xsi, xtg, xnw, xfa, xsg, xnn, xtk, xrl, bop, bcl, bin, bsk, bme, bli, bou, xnf, xfm, xfl, xfh, ou, xem, xel) ((nI nc), (nI nm), (nI nr), ft, ynd, ymd, ynh, ylv, bl, (nI dp), sp, (nI np), yen, fc, br, (oF pa), ups, yow, yma, (nF hm), (nF na), (nF ln), (nF op), fs, sc, (nF rk), rc, rn, yil, ynu, ynn, yfa, yvm, yvl, yvh, ou) := zz_in F0 F1 F2 F3 F4 F5 F6 F7
  have h10 := F0.1
  unfold wpX_also
  dsimp only
  cases nc with
  | zero =>
    have e1 : nI 0 - 1 = -1 := by decide
    rw [e1]
    refine nm_e (xw_f (fun z => absurd (Int32.lt_of_le_of_lt z.1 z.2) (by decide)) ?_)
    unfold wpY_also
    dsimp only
    rw [e1]
    exact nm_e (br_t (by decide) ⟨rfl, Z⟩)
  | succ c =>
    rw [nI_pred]
    refine nm_e ?_
    by_cases w : 0 ≤ v1 ∧ v1 < nI c
    · refine xw_t w ?_
      obtain ⟨i, i1, i2⟩ := sd_w (by omega) w
      subst i2
      have hvi : vp_in (nI i) 10 := vp_in_nI (by omega) (by decide)
      have hvc : vp_in (nI c) 10 := vp_in_nI (by omega) (by decide)
      have hv1 : vp_in (nI (2 * c)) 20 := vp_in_nI (by omega) (by decide)
      have hv2 : vp_in (nI (2 * c + 1)) 20 := vp_in_nI (by omega) (by decide)
      rw [sd_x2, nI_1, nI_clamp (n := i) (by omega), nI_clamp (n := 2 * c) (by omega), nI_clamp (n := 2 * c + 1) (by omega)]
      refine ⟨hvi, br_c (fun hf => sy_also (by omega) i1 (fun _ => ⟨rfl, Z⟩) (fun z => absurd hf z) (fun z => absurd hf z) (fun z => absurd hf z)) (fun hf => ⟨hv1, ?_⟩)⟩
      have hl := F5 c rfl
      have hnew : ∀ (xfs' : Nat → Int32), rl_lst (c + 1) xfs' (upd yow c (yow c ||| ((1 : Int32) <<< (nI i &&& 31)))) (upd yma c (yma c + 1)) →
          i_Rel (k + 5) ((nI (c + 1)), (nI nm), (nI nr), xnd, xmd, xnh, xlv, xq, xs, 0, ft, xdp, sp, xss, (nI np), (nI dp), xsm, fc, (oF pa), xfs', (upd ups c (ups c ||| ups i)), (nF hm), (nF na), br, (nF ln), (nF op), ic, ii, xdc, xfd, (nF rk), rc, rn, xqu, xwt, xsi, xtg, xnw, xfa, xsg, xnn, xtk, xrl, bop, bcl, bin, bsk, bme, bli, bou, xnf, xfm, xfl, xfh, ou, xem, xel) ((nI (c + 1)), (nI nm), (nI nr), ft, ynd, ymd, ynh, ylv, 0, (nI dp), sp, (nI np), yen, fc, br, (oF pa), (upd ups c (ups c ||| ups i)), (upd yow c (yow c ||| ((1 : Int32) <<< (nI i &&& 31)))), (upd yma c (yma c + 1)), (nF hm), (nF na), (nF ln), (nF op), fs, sc, (nF rk), rc, rn, yil, ynu, ynn, yfa, yvm, yvl, yvh, ou) :=
        fun xfs' h => zz_in (rl_also F0 i1 hf) F1 F2 F3 F4 h F6 (Or.inl rfl)
      rcases hl with ⟨l1, l2, l3, l4⟩ | ⟨j, l0, l1, l2, l3, l4⟩ | ⟨j, l0, l1, l2⟩
      · rw [l1, l2]
        have hb0 : ¬ bt (yow c) i = true := by rw [l3, b_0]; decide
        refine br_f (fun z => sd_ne1 (by omega) z.symm) ⟨hv2, br_t (by decide) ⟨hv1, br_f (by decide) ?_⟩⟩
        unfold wX_also_74
        have e20 : nI (2 * c) + 0 = nI (2 * c) := Int32.add_zero _
        rw [e20, nI_clamp (n := 2 * c) (by omega), nI_clamp (n := c) (by omega), nI_clamp (n := i) (by omega), sd_vbb (by omega)]
        refine ⟨hv1, nm_e ⟨hvc, hvi, hvc, nm_e (sy_also (by omega) i1 (fun z => absurd z hf) (fun _ z => absurd z hb0) (fun _ _ z => by rw [l4] at z; exact absurd z (by decide)) (fun _ _ _ => ⟨rfl, hnew _ (fun d hd => Or.inr (Or.inl ⟨i, ?_⟩))⟩))⟩⟩
        have hd' : d = c := by omega
        subst hd'
        refine ⟨i1, pk_us, by rw [pk_un (by omega)]; exact l2, fun j => ?_, by rw [pk_us, l4]; decide⟩
        rw [pk_us, b_or1 (by omega), l3, b_0, Bool.false_or]
      · rw [l1, l2]
        refine pk_eq j i (fun e => ?_) (fun e => ⟨hv2, br_t (by decide) ⟨hv1, br_t (nI_pos' (by omega)) ?_⟩⟩)
        · have hb1 : bt (yow c) i = true := by rw [l3]; simp [e]
          exact sy_also (by omega) i1 (fun z => absurd z hf) (fun _ _ => ⟨rfl, Z⟩) (fun _ z => by rw [hb1] at z; cases z) (fun _ z => by rw [hb1] at z; cases z)
        · have hb0 : ¬ bt (yow c) i = true := by rw [l3]; simp; exact fun z => e z.symm
          unfold wX_also_74
          rw [nI_1, nI_clamp (n := 2 * c + 1) (by omega), nI_clamp (n := c) (by omega), nI_clamp (n := i) (by omega), sd_vbb (by omega)]
          refine ⟨hv2, nm_e ⟨hvc, hvi, hvc, nm_e (sy_also (by omega) i1 (fun z => absurd z hf) (fun _ z => absurd z hb0) (fun _ _ z => by rw [l4] at z; exact absurd z (by decide)) (fun _ _ _ => ⟨rfl, hnew _ (fun d hd => Or.inr (Or.inr ⟨i, ?_⟩))⟩))⟩⟩
          have hd' : d = c := by omega
          subst hd'
          exact ⟨i1, pk_us, by rw [pk_us, l4]; decide⟩
      · rw [l1]
        exact br_c (fun _ => sy_also (by omega) i1 (fun z => absurd z hf) (fun _ _ => ⟨rfl, Z⟩) (fun _ _ _ => ⟨rfl, Z⟩) (fun _ _ z => absurd l2 z)) (fun _ => ⟨hv2, br_f (nI_pos (by omega)) (sy_also (by omega) i1 (fun z => absurd z hf) (fun _ _ => ⟨rfl, Z⟩) (fun _ _ _ => ⟨rfl, Z⟩) (fun _ _ z => absurd l2 z))⟩)
    · exact xw_f w (sy_alsoN (by omega) w ⟨rfl, Z⟩)
end
section
/-! the calls that write the program: method, code, keep, clear -/
section
variable {nc nm nr : Nat} {pa : Nat → Option Nat} {hm na ln op rk cl nn : Nat → Nat} {fc ups br ic ii fs sc rc rn : Nat → Int32} {dc fd : Nat → Nat → Option Nat}
variable {xnd xmd xnh xlv xq xs xbt xft xdp xst xss xpt xtr xsm : Int32} {xfs xdc xfd xqu xwt xsi xtg xnw xfa xsg xnn xtk xrl bop bcl bin bsk bme bli bou xnf xfm xfl xfh xou xem xel : Nat → Int32}
variable {ypl ynd ymd ynh ylv ybt ydp yst yot yen : Int32} {yow yma yil ynu ynn yfa yvm yvl yvh ypu : Nat → Int32}
theorem sx_method49 {post : Int32 → SX → Prop} {c n : Nat} {x2 : Int32} (h10 : nc ≤ 10) (h30 : nm ≤ 30) (hc : c < nc) (hn : n < 10) (hx : x2 = 0 ∨ x2 = 1) (Kf : nm = 30 → post (-2) ((nI nc), (nI nm), (nI nr), xnd, xmd, xnh, xlv, xq, xs, xbt, xft, xdp, xst, xss, xpt, xtr, xsm, fc, (oF pa), xfs, ups, (nF hm), (nF na), br, (nF ln), (nF op), ic, ii, xdc, xfd, (nF rk), rc, rn, xqu, xwt, xsi, xtg, xnw, xfa, xsg, xnn, xtk, xrl, bop, bcl, bin, bsk, bme, bli, bou, xnf, xfm, xfl, xfh, xou, xem, xel))
    (K : nm < 30 → post (nI nm) ((nI nc), (nI (nm + 1)), (nI nr), xnd, xmd, xnh, xlv, xq, xs, 0, xft, xdp, xst, xss, xpt, xtr, xsm, fc, (oF pa), xfs, ups, (nF (un hm nm c)), (nF (un na nm n)), (upd br nm x2), (nF (un ln nm 0)), (nF op), ic, ii, (upd xdc (10 * c + n) (nI nm)), xfd, (nF rk), rc, rn, xqu, xwt, xsi, xtg, xnw, xfa, xsg, xnn, xtk, xrl, bop, bcl, bin, bsk, bme, bli, bou, xnf, xfm, xfl, xfh, xou, xem, xel)) : wX_method_49 post (nI n) x2 (nI c) (nI nc) (nI nm) (nI nr) xnd xmd xnh xlv xq xs xbt xft xdp xst xss xpt xtr xsm fc (oF pa) xfs ups (nF hm) (nF na) br (nF ln) (nF op) ic ii xdc xfd (nF rk) rc rn xqu xwt xsi xtg xnw xfa xsg xnn xtk xrl bop bcl bin bsk bme bli bou xnf xfm xfl xfh xou xem xel := by
  unfold wX_method_49
  refine pk_eq nm 30 (fun h => Kf h) (fun h => ?_)
  have hx' : vp_nar .boolean x2 = x2 := by rcases hx with e | e <;> rw [e] <;> rfl
  have h0 : vp_nar .byte (0 : Int32) = nI 0 := sd_vb (m := 0) (by decide)
  have hv : vp_in (nI nm) 30 := vp_in_nI (by omega) (by decide)
  rw [nI_1, nI_clamp (n := nm) (by omega), sd_x10, nI_add, nI_clamp (n := 10 * c + n) (by omega), hx', h0, sd_vbb (m := c) (by omega), sd_vbb (m := n) (by omega), sd_vbb (m := nm) (by omega), nF_u, nF_u, nF_u]
  exact nm_e ⟨hv, nm_e ⟨hv, nm_e ⟨hv, nm_e ⟨hv, nm_e ⟨vp_in_nI (by omega) (by decide), nm_e (K (by omega))⟩⟩⟩⟩⟩
theorem sy_method44 {post : Int32 → SY → Prop} {c n : Nat} {x2 : Int32} (h30 : nm ≤ 30) (hx : x2 = 0 ∨ x2 = 1) (Kf : nm = 30 → post (-2) ((nI nc), (nI nm), (nI nr), ypl, ynd, ymd, ynh, ylv, ybt, ydp, yst, yot, yen, fc, br, (oF pa), ups, yow, yma, (nF hm), (nF na), (nF ln), (nF op), fs, sc, (nF rk), rc, rn, yil, ynu, ynn, yfa, yvm, yvl, yvh, ypu))
    (K : nm < 30 → post (nI nm) ((nI nc), (nI (nm + 1)), (nI nr), ypl, ynd, ymd, ynh, ylv, 0, ydp, yst, yot, yen, fc, (upd br nm x2), (oF pa), ups, yow, yma, (nF (un hm nm c)), (nF (un na nm n)), (nF (un ln nm 0)), (nF op), fs, sc, (nF rk), rc, rn, yil, ynu, ynn, yfa, yvm, yvl, yvh, ypu)) : wY_method_44 post (nI n) x2 (nI c) (nI nc) (nI nm) (nI nr) ypl ynd ymd ynh ylv ybt ydp yst yot yen fc br (oF pa) ups yow yma (nF hm) (nF na) (nF ln) (nF op) fs sc (nF rk) rc rn yil ynu ynn yfa yvm yvl yvh ypu := by
  unfold wY_method_44
  refine pk_eq nm 30 (fun h => Kf h) (fun h => ?_)
  have hx' : vp_nar .boolean x2 = x2 := by rcases hx with e | e <;> rw [e] <;> rfl
  have hv : vp_in (nI nm) 30 := vp_in_nI (by omega) (by decide)
  have hz : upd (nF ln) nm 0 = nF (un ln nm 0) := nF_u ln nm 0
  rw [nI_1, nI_clamp (n := nm) (by omega), hx', nF_u, nF_u, hz]
  exact nm_e ⟨hv, nm_e ⟨hv, nm_e ⟨hv, nm_e ⟨hv, nm_e (K (by omega))⟩⟩⟩⟩
theorem sy_method {post : Int32 → SY → Prop} {c n : Nat} {x2 : Int32} (M : sp_mth (c + 1) nm fc hm na ln br dc) (h10 : c + 1 ≤ 10) (hn : n < 10) (p1 : ∀ m, dc c n = some m → post (-1) ((nI (c + 1)), (nI nm), (nI nr), ypl, ynd, ymd, ynh, ylv, ybt, ydp, yst, yot, yen, fc, br, (oF pa), ups, yow, yma, (nF hm), (nF na), (nF ln), (nF op), fs, sc, (nF rk), rc, rn, yil, ynu, ynn, yfa, yvm, yvl, yvh, ypu)) (p2 : dc c n = none → ¬ fc c = 0 → x2 = 0 → post (-1) ((nI (c + 1)), (nI nm), (nI nr), ypl, ynd, ymd, ynh, ylv, ybt, ydp, yst, yot, yen, fc, br, (oF pa), ups, yow, yma, (nF hm), (nF na), (nF ln), (nF op), fs, sc, (nF rk), rc, rn, yil, ynu, ynn, yfa, yvm, yvl, yvh, ypu))
    (p3 : dc c n = none → (¬ fc c = 0 → ¬ x2 = 0) → wY_method_44 post (nI n) x2 (nI c) (nI (c + 1)) (nI nm) (nI nr) ypl ynd ymd ynh ylv ybt ydp yst yot yen fc br (oF pa) ups yow yma (nF hm) (nF na) (nF ln) (nF op) fs sc (nF rk) rc rn yil ynu ynn yfa yvm yvl yvh ypu) : wpY_method post ((nI (c + 1)), (nI nm), (nI nr), ypl, ynd, ymd, ynh, ylv, ybt, ydp, yst, yot, yen, fc, br, (oF pa), ups, yow, yma, (nF hm), (nF na), (nF ln), (nF op), fs, sc, (nF rk), rc, rn, yil, ynu, ynn, yfa, yvm, yvl, yvh, ypu) (nI n) x2 := by
  have h30 := M.1
  unfold wpY_method
  dsimp only
  rw [nI_pred]
  refine nm_e (br_f (nI_pos (by omega)) (yw_t (sd_wi (n := 10) hn (by decide)) (sy_declared M h10 (by omega) (by omega) ?_)))
  cases ed : dc c n with
  | some m =>
    have hm' := ((M.2.2 c n m).mp ed).1
    exact br_t (nI_pos' (by omega)) (p1 m ed)
  | none =>
    refine br_f (by decide) ⟨vp_in_nI (by omega) (by decide), ?_⟩
    rw [nI_clamp (n := c) (by omega)]
    exact br_c (fun hf => p3 ed (fun z => absurd hf z)) (fun hf => br_c (fun hx => p2 ed hf hx) (fun hx => p3 ed (fun _ => hx)))
end
theorem i_vc_method {k : Nat} {u : SX} {v : SY} (I : i_Rel k u v) (hk : k + 5 ≤ 2560) (v1 : Int32) (v2 : Int32) : wpX_method (fun r u' => wpY_method (fun r' v' => r' = r ∧ i_Rel (k + 5) u' v') v v1 (lw_bz v2)) u v1 (lw_bz v2) := by
  refine zz_el (P := fun u v => wpX_method (fun r u' => wpY_method (fun r' v' => r' = r ∧ i_Rel (k + 5) u' v') v v1 (lw_bz v2)) u v1 (lw_bz v2)) ?_ I
  intro nc nm nr np dp pa hm na ln op rk cl nn dc xnd xmd xnh xlv xq xs bl ft xdp sp xss xsm fc xfs ups br ic ii xdc xfd rc rn xqu xwt xsi xtg xnw xfa xsg xnn xtk xrl bop bcl bin bsk bme bli bou xnf xfm xfl xfh ou xem xel ynd ymd ynh ylv yen yow yma fs sc yil ynu ynn yfa yvm yvl yvh F0 F1 F2 F3 F4 F5 F6 F7
  have Z : i_Rel (k + 5) ((nI nc), (nI nm), (nI nr), xnd, xmd, xnh, xlv, xq, xs, bl, ft, xdp, sp, xss, (nI np), (nI dp), xsm, fc, (oF pa), xfs, ups, (nF hm), (nF na), br, (nF ln), (nF op), ic, ii, xdc, xfd, (nF rk), rc, rn, xqu, xwt, xsi, xtg, xnw, xfa, xsg, xnn, xtk, xrl, bop, bcl, bin, bsk, bme, bli, bou, xnf, xfm, xfl, xfh, ou, xem, xel) ((nI nc), (nI nm), (nI nr), ft, ynd, ymd, ynh, ylv, bl, (nI dp), sp, (nI np), yen, fc, br, (oF pa), ups, yow, yma, (nF hm), (nF na), (nF ln), (nF op), fs, sc, (nF rk), rc, rn, yil, ynu, ynn, yfa, yvm, yvl, yvh, ou) := zz_in F0 F1 F2 F3 F4 F5 F6 F7
  have h10 := F0.1
  have h30 := F1.1
  have hx := lw_bz_01 v2
  generalize lw_bz v2 = x2 at *
  unfold wpX_method
  dsimp only
  cases nc with
  | zero =>
    have e1 : nI 0 - 1 = -1 := by decide
    rw [e1]
    refine nm_e (br_t (by decide) ?_)
    unfold wpY_method
    dsimp only
    rw [e1]
    exact nm_e (br_t (by decide) ⟨rfl, Z⟩)
  | succ c =>
    rw [nI_pred]
    refine nm_e (br_f (nI_pos (by omega)) ?_)
    by_cases w : 0 ≤ v1 ∧ v1 < 10
    · refine xw_t w ?_
      obtain ⟨n, n1, n2⟩ := sd_w (n := 10) (by decide) w
      subst n2
      have hvc : vp_in (nI c) 10 := vp_in_nI (by omega) (by decide)
      rw [sd_x10, nI_add, nI_clamp (n := 10 * c + n) (by omega), nI_clamp (n := c) (by omega), F4 c n (by omega) n1]
      refine ⟨vp_in_nI (by omega) (by decide), ?_⟩
      cases ed : dc c n with
      | some m =>
        have hm' := ((F1.2.2 c n m).mp ed).1
        exact br_t (nI_pos' (by omega)) (sy_method F1 h10 n1 (fun _ _ => ⟨rfl, Z⟩) (fun z => by rw [ed] at z; cases z) (fun z => by rw [ed] at z; cases z))
      | none =>
        have hY : ∀ {post : Int32 → SY → Prop}, (¬ fc c = 0 → ¬ x2 = 0) → wY_method_44 post (nI n) x2 (nI c) (nI (c + 1)) (nI nm) (nI nr) ft ynd ymd ynh ylv bl (nI dp) sp (nI np) yen fc br (oF pa) ups yow yma (nF hm) (nF na) (nF ln) (nF op) fs sc (nF rk) rc rn yil ynu ynn yfa yvm yvl yvh ou → wpY_method post ((nI (c + 1)), (nI nm), (nI nr), ft, ynd, ymd, ynh, ylv, bl, (nI dp), sp, (nI np), yen, fc, br, (oF pa), ups, yow, yma, (nF hm), (nF na), (nF ln), (nF op), fs, sc, (nF rk), rc, rn, yil, ynu, ynn, yfa, yvm, yvl, yvh, ou) (nI n) x2 := fun hf hp =>
          sy_method F1 h10 n1 (fun m z => by rw [ed] at z; cases z) (fun _ a b => absurd b (hf a)) (fun _ _ => hp)
        have hfin : (¬ fc c = 0 → ¬ x2 = 0) → wX_method_49 (fun r u' => wpY_method (fun r' v' => r' = r ∧ i_Rel (k + 5) u' v') ((nI (c + 1)), (nI nm), (nI nr), ft, ynd, ymd, ynh, ylv, bl, (nI dp), sp, (nI np), yen, fc, br, (oF pa), ups, yow, yma, (nF hm), (nF na), (nF ln), (nF op), fs, sc, (nF rk), rc, rn, yil, ynu, ynn, yfa, yvm, yvl, yvh, ou) (nI n) x2) (nI n) x2 (nI c) (nI (c + 1)) (nI nm) (nI nr) xnd xmd xnh xlv xq xs bl ft xdp sp xss (nI np) (nI dp) xsm fc (oF pa) xfs ups (nF hm) (nF na) br (nF ln) (nF op) ic ii xdc xfd (nF rk) rc rn xqu xwt xsi xtg xnw xfa xsg xnn xtk xrl bop bcl bin bsk bme bli bou xnf xfm xfl xfh ou xem xel := fun hf =>
          sx_method49 h10 h30 (by omega) n1 hx (fun h => hY hf (sy_method44 h30 hx (fun _ => ⟨rfl, Z⟩) (fun z => by omega))) (fun h => hY hf (sy_method44 h30 hx (fun z => by omega) (fun _ => ⟨rfl, zz_in F0 (rl_meth F1 h (by omega) n1 hx hf ed) (rl_methI F2) F3 (fun a b ha hb => by
            show _ = oI (if a = c ∧ b = n then some nm else dc a b)
            by_cases z : a = c ∧ b = n
            · rw [z.1, z.2, pk_us, if_pos ⟨rfl, rfl⟩]; rfl
            · rw [pk_un (by omega), if_neg z]; exact F4 a b ha hb) F5 F6 (Or.inl rfl)⟩)))
        exact br_f (by decide) ⟨hvc, br_c (fun hf => hfin (fun z => absurd hf z)) (fun hf => br_c (fun hx0 => sy_method F1 h10 n1 (fun m z => by rw [ed] at z; cases z) (fun _ _ _ => ⟨rfl, Z⟩) (fun _ z => absurd hx0 (z hf))) (fun hx0 => hfin (fun _ => hx0)))⟩
    · refine xw_f w ?_
      unfold wpY_method
      dsimp only
      rw [nI_pred]
      exact nm_e (br_f (nI_pos (by omega)) (yw_f w ⟨rfl, Z⟩))
theorem i_vc_keep {k : Nat} {u : SX} {v : SY} (I : i_Rel k u v) (hk : k + 5 ≤ 2560) (v1 : Int32) (v2 : Int32) (v3 : Int32) : wpX_keep (fun r u' => wpY_keep (fun r' v' => r' = r ∧ i_Rel (k + 5) u' v') v v1 v2 v3) u v1 v2 v3 := by
  refine zz_el (P := fun u v => wpX_keep (fun r u' => wpY_keep (fun r' v' => r' = r ∧ i_Rel (k + 5) u' v') v v1 v2 v3) u v1 v2 v3) ?_ I
  intro nc nm nr np dp pa hm na ln op rk cl nn dc xnd xmd xnh xlv xq xs bl ft xdp sp xss xsm fc xfs ups br ic ii xdc xfd rc rn xqu xwt xsi xtg xnw xfa xsg xnn xtk xrl bop bcl bin bsk bme bli bou xnf xfm xfl xfh ou xem xel ynd ymd ynh ylv yen yow yma fs sc yil ynu ynn yfa yvm yvl yvh F0 F1 F2 F3 F4 F5 F6 F7
  have Z : i_Rel (k + 5) ((nI nc), (nI nm), (nI nr), xnd, xmd, xnh, xlv, xq, xs, bl, ft, xdp, sp, xss, (nI np), (nI dp), xsm, fc, (oF pa), xfs, ups, (nF hm), (nF na), br, (nF ln), (nF op), ic, ii, xdc, xfd, (nF rk), rc, rn, xqu, xwt, xsi, xtg, xnw, xfa, xsg, xnn, xtk, xrl, bop, bcl, bin, bsk, bme, bli, bou, xnf, xfm, xfl, xfh, ou, xem, xel) ((nI nc), (nI nm), (nI nr), ft, ynd, ymd, ynh, ylv, bl, (nI dp), sp, (nI np), yen, fc, br, (oF pa), ups, yow, yma, (nF hm), (nF na), (nF ln), (nF op), fs, sc, (nF rk), rc, rn, yil, ynu, ynn, yfa, yvm, yvl, yvh, ou) := zz_in F0 F1 F2 F3 F4 F5 F6 F7
  have h4 := F3.1
  unfold wpX_keep wpY_keep
  dsimp only
  refine pk_eq nr 4 (fun h => br_t (by rw [h]; rfl) ⟨rfl, Z⟩) (fun h => ?_)
  have hne : ¬ nI nr = 4 := fun z => h (sd_inj (b := 4) (by omega) (by decide) z)
  by_cases w : 0 ≤ v1 ∧ v1 < 2
  · refine xw_t w ?_
    obtain ⟨n, n1, n2⟩ := sd_w (n := 2) (by decide) w
    subst n2
    have hv : vp_in (nI nr) 4 := vp_in_nI (by omega) (by decide)
    rw [nI_clamp (n := nr) (by omega), sd_vbb (by omega), nF_u, nI_1]
    refine ⟨hv, nm_e ⟨hv, nm_e (nm_e ⟨hv, nm_e (br_f hne (yw_t w ⟨hv, nm_e ⟨hv, nm_e ⟨hv, nm_e (nm_e ⟨rfl, ?_⟩)⟩⟩⟩))⟩)⟩⟩
    refine zz_in F0 F1 F2 ⟨by omega, fun r hr => ?_⟩ F4 F5 F6 (Or.inl rfl)
    by_cases z : r = nr
    · rw [z, un_s]; exact n1
    · rw [un_n z]; exact F3.2 r (by omega)
  · exact xw_f w (br_f hne (yw_f w ⟨rfl, Z⟩))
theorem i_vc_clear {k : Nat} {u : SX} {v : SY} (I : i_Rel k u v) (hk : k + 5 ≤ 2560) : wpX_clear (fun r u' => wpY_clear (fun r' v' => r' = r ∧ i_Rel (k + 5) u' v') v) u := by
  refine zz_el (P := fun u v => wpX_clear (fun r u' => wpY_clear (fun r' v' => r' = r ∧ i_Rel (k + 5) u' v') v) u) ?_ I
  intro nc nm nr np dp pa hm na ln op rk cl nn dc xnd xmd xnh xlv xq xs bl ft xdp sp xss xsm fc xfs ups br ic ii xdc xfd rc rn xqu xwt xsi xtg xnw xfa xsg xnn xtk xrl bop bcl bin bsk bme bli bou xnf xfm xfl xfh ou xem xel ynd ymd ynh ylv yen yow yma fs sc yil ynu ynn yfa yvm yvl yvh F0 F1 F2 F3 F4 F5 F6 F7
  unfold wpX_clear wpY_clear
  dsimp only
  refine ⟨rfl, ?_⟩
  rw [← nI_0]
  refine zz_in (nc := 0) (nm := 0) (nr := 0) (dc := fun _ _ => none) (cl := cl) (nn := nn) ?_ ?_ ?_ ?_ ?_ ?_ F6 (Or.inl rfl)
  · exact ⟨by omega, fun c h => by omega, fun c p h => by omega, fun c h => by omega, fun c a h => by omega, fun c a h => by omega, fun c a h => by omega⟩
  · exact ⟨by omega, fun m h => by omega, fun c n m => ⟨fun h => (by cases h), fun h => by have := h.1; omega⟩⟩
  · exact fun m k h => by omega
  · exact ⟨by omega, fun r h => by omega⟩
  · exact fun c n h => by omega
  · exact fun c h => by omega
end
section
/-! the calls that write the program: code -/
def rl_co (o : Nat) (v2 v3 : Int32) : Prop := (1 ≤ o → o ≤ 4 → 0 ≤ v2 ∧ v2 < 10) ∧ (o = 2 ∨ o = 3 → 0 ≤ v3 ∧ v3 < 10)
section
variable {nc nm nr : Nat} {pa : Nat → Option Nat} {hm na ln op rk cl nn : Nat → Nat} {fc ups br ic ii fs sc rc rn : Nat → Int32} {dc fd : Nat → Nat → Option Nat}
variable {xnd xmd xnh xlv xq xs xbt xft xdp xst xss xpt xtr xsm : Int32} {xfs xdc xfd xqu xwt xsi xtg xnw xfa xsg xnn xtk xrl bop bcl bin bsk bme bli bou xnf xfm xfl xfh xou xem xel : Nat → Int32}
variable {ypl ynd ymd ynh ylv ybt ydp yst yot yen : Int32} {yow yma yil ynu ynn yfa yvm yvl yvh ypu : Nat → Int32}
theorem sx_code110 {post : Int32 → SX → Prop} {m o : Nat} {v2 v3 x5 x6 : Int32} (hm' : m < 30) (hl : ln m < 6) (ho : o < 6) (h5 : (1 ≤ o ∧ o ≤ 4) ∧ x5 = 1 ∧ (0 ≤ v2 ∧ v2 < 10) ∨ ¬ (1 ≤ o ∧ o ≤ 4) ∧ x5 = 0) (h6 : (o = 2 ∨ o = 3) ∧ x6 = 1 ∨ ¬ (o = 2 ∨ o = 3) ∧ x6 = 0)
    (K : ∀ a b : Int32, (¬ (1 ≤ o ∧ o ≤ 4) → a = -1) → (1 ≤ o ∧ o ≤ 4 → a = v2) → (o = 0 ∨ o = 2 ∨ o = 3 → b = v3) → (¬ (o = 0 ∨ o = 2 ∨ o = 3) → b = 0) → post 1 ((nI nc), (nI nm), (nI nr), xnd, xmd, xnh, xlv, xq, xs, 0, xft, xdp, xst, xss, xpt, xtr, xsm, fc, (oF pa), xfs, ups, (nF hm), (nF na), br, (nF (un ln m (ln m + 1))), (nF (un op (6 * m + ln m) o)), (upd ic (6 * m + ln m) a), (upd ii (6 * m + ln m) b), xdc, xfd, (nF rk), rc, rn, xqu, xwt, xsi, xtg, xnw, xfa, xsg, xnn, xtk, xrl, bop, bcl, bin, bsk, bme, bli, bou, xnf, xfm, xfl, xfh, xou, xem, xel)) : wX_code_110 post (nI o) v2 v3 (nI m) x5 x6 (nI nc) (nI nm) (nI nr) xnd xmd xnh xlv xq xs xbt xft xdp xst xss xpt xtr xsm fc (oF pa) xfs ups (nF hm) (nF na) br (nF ln) (nF op) ic ii xdc xfd (nF rk) rc rn xqu xwt xsi xtg xnw xfa xsg xnn xtk xrl bop bcl bin bsk bme bli bou xnf xfm xfl xfh xou xem xel := by
  have hi : 6 * m + ln m < 180 := by omega
  have hvm : vp_in (nI m) 30 := vp_in_nI hm' (by decide)
  have hvi : vp_in (nI (6 * m + ln m)) 180 := vp_in_nI hi (by decide)
  unfold wX_code_110
  rw [nI_clamp (n := m) (by omega), nF_a, nI_1, sd_vbb (by omega), nF_u, sd_x6, nI_add]
  refine ⟨hvm, hvm, nm_e (nm_e ⟨hvi, ?_⟩)⟩
  rw [nI_clamp (n := 6 * m + ln m) (by omega), sd_vbb (by omega), nF_u]
  have h156 : ∀ z : Int32, (¬ (1 ≤ o ∧ o ≤ 4) → z = -1) → (1 ≤ o ∧ o ≤ 4 → z = v2) → vp_nar .byte z.toInt8.toInt32 = z → wX_code_156 post (nI o) v3 x6 (nI (6 * m + ln m)) z (nI (6 * m + ln m)) (nI nc) (nI nm) (nI nr) xnd xmd xnh xlv xq xs xbt xft xdp xst xss xpt xtr xsm fc (oF pa) xfs ups (nF hm) (nF na) br (nF (un ln m (ln m + 1))) (nF (un op (6 * m + ln m) o)) ic ii xdc xfd (nF rk) rc rn xqu xwt xsi xtg xnw xfa xsg xnn xtk xrl bop bcl bin bsk bme bli bou xnf xfm xfl xfh xou xem xel := by
    intro z z1 z2 z3
    have h173 : (o = 0 ∨ o = 2 ∨ o = 3) → wX_code_173 post v3 (nI (6 * m + ln m)) (nI nc) (nI nm) (nI nr) xnd xmd xnh xlv xq xs xbt xft xdp xst xss xpt xtr xsm fc (oF pa) xfs ups (nF hm) (nF na) br (nF (un ln m (ln m + 1))) (nF (un op (6 * m + ln m) o)) (upd ic (6 * m + ln m) z) ii xdc xfd (nF rk) rc rn xqu xwt xsi xtg xnw xfa xsg xnn xtk xrl bop bcl bin bsk bme bli bou xnf xfm xfl xfh xou xem xel := by
      intro h023
      unfold wX_code_173
      rw [nI_clamp (n := 6 * m + ln m) (by omega)]
      exact ⟨hvi, nm_e (K z v3 z1 z2 (fun _ => rfl) (fun w => absurd h023 w))⟩
    unfold wX_code_156
    rw [nI_clamp (n := 6 * m + ln m) (by omega), z3]
    refine ⟨hvi, nm_e ?_⟩
    rcases h6 with ⟨e1, e2⟩ | ⟨e1, e2⟩
    · rw [e2]; exact br_f (by decide) (h173 (Or.inr e1))
    · rw [e2]
      refine br_t rfl (pk_eq o 0 (fun o0 => h173 (Or.inl o0)) (fun o0 => ⟨hvi, nm_e (K z 0 z1 z2 (fun w => ?_) (fun _ => rfl))⟩))
      exact absurd w (fun y => y.elim o0 e1)
  rcases h5 with ⟨e1, e2, e3⟩ | ⟨e1, e2⟩
  · rw [e2]
    obtain ⟨c, c1, c2⟩ := sd_w (n := 10) (by decide) e3
    exact nm_e (br_f (by decide) (h156 v2 (fun w => absurd e1 w) (fun _ => rfl) (by rw [c2, sd_vbb (by omega)])))
  · rw [e2]
    exact nm_e (br_t rfl (h156 (-1) (fun _ => rfl) (fun w => absurd w e1) sd_vbmm))
theorem sx_code {post : Int32 → SX → Prop} {m o : Nat} {v2 v3 : Int32} (hm' : m < 30) (hb : br m = 0) (hl : ln m < 6) (ho : o < 6) (Kf : ¬ rl_co o v2 v3 → post 0 ((nI nc), (nI (m + 1)), (nI nr), xnd, xmd, xnh, xlv, xq, xs, xbt, xft, xdp, xst, xss, xpt, xtr, xsm, fc, (oF pa), xfs, ups, (nF hm), (nF na), br, (nF ln), (nF op), ic, ii, xdc, xfd, (nF rk), rc, rn, xqu, xwt, xsi, xtg, xnw, xfa, xsg, xnn, xtk, xrl, bop, bcl, bin, bsk, bme, bli, bou, xnf, xfm, xfl, xfh, xou, xem, xel))
    (K : rl_co o v2 v3 → ∀ a b : Int32, (¬ (1 ≤ o ∧ o ≤ 4) → a = -1) → (1 ≤ o ∧ o ≤ 4 → a = v2) → (o = 0 ∨ o = 2 ∨ o = 3 → b = v3) → (¬ (o = 0 ∨ o = 2 ∨ o = 3) → b = 0) → post 1 ((nI nc), (nI (m + 1)), (nI nr), xnd, xmd, xnh, xlv, xq, xs, 0, xft, xdp, xst, xss, xpt, xtr, xsm, fc, (oF pa), xfs, ups, (nF hm), (nF na), br, (nF (un ln m (ln m + 1))), (nF (un op (6 * m + ln m) o)), (upd ic (6 * m + ln m) a), (upd ii (6 * m + ln m) b), xdc, xfd, (nF rk), rc, rn, xqu, xwt, xsi, xtg, xnw, xfa, xsg, xnn, xtk, xrl, bop, bcl, bin, bsk, bme, bli, bou, xnf, xfm, xfl, xfh, xou, xem, xel)) : wpX_code post ((nI nc), (nI (m + 1)), (nI nr), xnd, xmd, xnh, xlv, xq, xs, xbt, xft, xdp, xst, xss, xpt, xtr, xsm, fc, (oF pa), xfs, ups, (nF hm), (nF na), br, (nF ln), (nF op), ic, ii, xdc, xfd, (nF rk), rc, rn, xqu, xwt, xsi, xtg, xnw, xfa, xsg, xnn, xtk, xrl, bop, bcl, bin, bsk, bme, bli, bou, xnf, xfm, xfl, xfh, xou, xem, xel) (nI o) v2 v3 := by
  have hvm : vp_in (nI m) 30 := vp_in_nI hm' (by decide)
  have h78 : ∀ x5 x6 : Int32, ((1 ≤ o ∧ o ≤ 4) ∧ x5 = 1 ∨ ¬ (1 ≤ o ∧ o ≤ 4) ∧ x5 = 0) → ((o = 2 ∨ o = 3) ∧ x6 = 1 ∨ ¬ (o = 2 ∨ o = 3) ∧ x6 = 0) → wX_code_78 post (nI o) v2 v3 (nI m) x5 x6 (nI nc) (nI (m + 1)) (nI nr) xnd xmd xnh xlv xq xs xbt xft xdp xst xss xpt xtr xsm fc (oF pa) xfs ups (nF hm) (nF na) br (nF ln) (nF op) ic ii xdc xfd (nF rk) rc rn xqu xwt xsi xtg xnw xfa xsg xnn xtk xrl bop bcl bin bsk bme bli bou xnf xfm xfl xfh xou xem xel := by
    intro x5 x6 h5 h6
    have h94 : (1 ≤ o ∧ o ≤ 4 → 0 ≤ v2 ∧ v2 < 10) → wX_code_94 post (nI o) v2 v3 (nI m) x5 x6 (nI nc) (nI (m + 1)) (nI nr) xnd xmd xnh xlv xq xs xbt xft xdp xst xss xpt xtr xsm fc (oF pa) xfs ups (nF hm) (nF na) br (nF ln) (nF op) ic ii xdc xfd (nF rk) rc rn xqu xwt xsi xtg xnw xfa xsg xnn xtk xrl bop bcl bin bsk bme bli bou xnf xfm xfl xfh xou xem xel := by
      intro hc
      have h5' : (1 ≤ o ∧ o ≤ 4) ∧ x5 = 1 ∧ (0 ≤ v2 ∧ v2 < 10) ∨ ¬ (1 ≤ o ∧ o ≤ 4) ∧ x5 = 0 := h5.imp (fun z => ⟨z.1, z.2, hc z.1⟩) id
      unfold wX_code_94
      rcases h6 with ⟨e1, e2⟩ | ⟨e1, e2⟩
      · by_cases w : 0 ≤ v3 ∧ v3 < 10
        · have hco : rl_co o v2 v3 := ⟨fun a b => hc ⟨a, b⟩, fun _ => w⟩
          exact br_f (by rw [e2]; decide) (xw_t w (sx_code110 hm' hl ho h5' (Or.inl ⟨e1, e2⟩) (K hco)))
        · exact br_f (by rw [e2]; decide) (xw_f w (Kf (fun z => w (z.2 e1))))
      · have hco : rl_co o v2 v3 := ⟨fun a b => hc ⟨a, b⟩, fun z => absurd z e1⟩
        exact br_t e2 (sx_code110 hm' hl ho h5' (Or.inr ⟨e1, e2⟩) (K hco))
    unfold wX_code_78
    rcases h5 with ⟨e1, e2⟩ | ⟨e1, e2⟩
    · by_cases w : 0 ≤ v2 ∧ v2 < 10
      · exact br_f (by rw [e2]; decide) (xw_t w (h94 (fun _ => w)))
      · exact br_f (by rw [e2]; decide) (xw_f w (Kf (fun z => w (z.1 e1.1 e1.2))))
    · exact br_t e2 (h94 (fun z => absurd z e1))
  have h61 : ∀ x5 : Int32, ((1 ≤ o ∧ o ≤ 4) ∧ x5 = 1 ∨ ¬ (1 ≤ o ∧ o ≤ 4) ∧ x5 = 0) → wX_code_61 post (nI o) v2 v3 (nI m) x5 (nI nc) (nI (m + 1)) (nI nr) xnd xmd xnh xlv xq xs xbt xft xdp xst xss xpt xtr xsm fc (oF pa) xfs ups (nF hm) (nF na) br (nF ln) (nF op) ic ii xdc xfd (nF rk) rc rn xqu xwt xsi xtg xnw xfa xsg xnn xtk xrl bop bcl bin bsk bme bli bou xnf xfm xfl xfh xou xem xel := by
    intro x5 h5
    unfold wX_code_61
    exact pk_eq o 2 (fun o2 => h78 x5 1 h5 (Or.inl ⟨Or.inl o2, rfl⟩)) (fun o2 => pk_eq o 3 (fun o3 => h78 x5 1 h5 (Or.inl ⟨Or.inr o3, rfl⟩)) (fun o3 => h78 x5 0 h5 (Or.inr ⟨fun z => z.elim o2 o3, rfl⟩)))
  unfold wpX_code
  dsimp only
  rw [nI_pred]
  refine nm_e (br_f (nI_pos (by omega)) ⟨hvm, ?_⟩)
  rw [nI_clamp (n := m) (by omega), nF_a]
  refine br_t hb ⟨hvm, pk_eq (ln m) 6 (fun z => by omega) (fun _ => xw_t (sd_wi (n := 6) ho (by decide)) (pk_lt o 1 (fun z => h61 0 (Or.inr ⟨by omega, rfl⟩)) (fun z => pk_lt 4 o (fun y => h61 0 (Or.inr ⟨by omega, rfl⟩)) (fun y => h61 1 (Or.inl ⟨⟨z, y⟩, rfl⟩)))))⟩
theorem sy_code {post : Int32 → SY → Prop} {m o : Nat} {v2 v3 : Int32} (hm' : m < 30) (hb : br m = 0) (hl : ln m < 6) (ho : o < 6) (Kf : ¬ rl_co o v2 v3 → post 0 ((nI nc), (nI (m + 1)), (nI nr), ypl, ynd, ymd, ynh, ylv, ybt, ydp, yst, yot, yen, fc, br, (oF pa), ups, yow, yma, (nF hm), (nF na), (nF ln), (nF op), fs, sc, (nF rk), rc, rn, yil, ynu, ynn, yfa, yvm, yvl, yvh, ypu))
    (K : rl_co o v2 v3 → post 1 ((nI nc), (nI (m + 1)), (nI nr), ypl, ynd, ymd, ynh, ylv, 0, ydp, yst, yot, yen, fc, br, (oF pa), ups, yow, yma, (nF hm), (nF na), (nF (un ln m (ln m + 1))), (nF (un op (6 * m + ln m) o)), (upd fs (6 * m + ln m) v2), (upd sc (6 * m + ln m) v3), (nF rk), rc, rn, yil, ynu, ynn, yfa, yvm, yvl, yvh, ypu)) : wpY_code post ((nI nc), (nI (m + 1)), (nI nr), ypl, ynd, ymd, ynh, ylv, ybt, ydp, yst, yot, yen, fc, br, (oF pa), ups, yow, yma, (nF hm), (nF na), (nF ln), (nF op), fs, sc, (nF rk), rc, rn, yil, ynu, ynn, yfa, yvm, yvl, yvh, ypu) (nI o) v2 v3 := by
  have hvm : vp_in (nI m) 30 := vp_in_nI hm' (by decide)
  have hvi : vp_in (nI (6 * m + ln m)) 180 := vp_in_nI (by omega) (by decide)
  have h84 : rl_co o v2 v3 → wY_code_84 post (nI o) v2 v3 (nI m) (nI nc) (nI (m + 1)) (nI nr) ypl ynd ymd ynh ylv ybt ydp yst yot yen fc br (oF pa) ups yow yma (nF hm) (nF na) (nF ln) (nF op) fs sc (nF rk) rc rn yil ynu ynn yfa yvm yvl yvh ypu := by
    intro hco
    unfold wY_code_84
    rw [nI_clamp (n := m) (by omega), nF_a, nI_1, nF_u, sd_x6, nI_add]
    refine ⟨hvm, hvm, nm_e (nm_e ⟨hvi, ?_⟩)⟩
    rw [nI_clamp (n := 6 * m + ln m) (by omega), nF_u]
    exact nm_e ⟨hvi, nm_e ⟨hvi, nm_e (K hco)⟩⟩
  have h63 : (1 ≤ o ∧ o ≤ 4 → 0 ≤ v2 ∧ v2 < 10) → wY_code_63 post (nI o) v2 v3 (nI m) (nI nc) (nI (m + 1)) (nI nr) ypl ynd ymd ynh ylv ybt ydp yst yot yen fc br (oF pa) ups yow yma (nF hm) (nF na) (nF ln) (nF op) fs sc (nF rk) rc rn yil ynu ynn yfa yvm yvl yvh ypu := by
    intro hc
    have h73 : o = 2 ∨ o = 3 → wY_code_73 post (nI o) v2 v3 (nI m) (nI nc) (nI (m + 1)) (nI nr) ypl ynd ymd ynh ylv ybt ydp yst yot yen fc br (oF pa) ups yow yma (nF hm) (nF na) (nF ln) (nF op) fs sc (nF rk) rc rn yil ynu ynn yfa yvm yvl yvh ypu := by
      intro e1
      unfold wY_code_73
      by_cases w : 0 ≤ v3 ∧ v3 < 10
      · exact yw_t w (h84 ⟨fun a b => hc ⟨a, b⟩, fun _ => w⟩)
      · exact yw_f w (Kf (fun z => w (z.2 e1)))
    unfold wY_code_63
    exact pk_eq o 2 (fun o2 => h73 (Or.inl o2)) (fun o2 => pk_eq o 3 (fun o3 => h73 (Or.inr o3)) (fun o3 => h84 ⟨fun a b => hc ⟨a, b⟩, fun z => absurd z (fun y => y.elim o2 o3)⟩))
  unfold wpY_code
  dsimp only
  rw [nI_pred]
  refine nm_e (br_f (nI_pos (by omega)) ⟨hvm, ?_⟩)
  rw [nI_clamp (n := m) (by omega), nF_a]
  refine br_t hb ⟨hvm, pk_eq (ln m) 6 (fun z => by omega) (fun _ => yw_t (sd_wi (n := 6) ho (by decide)) (pk_lt o 1 (fun z => h63 (fun y => by omega)) (fun z => pk_lt 4 o (fun y => h63 (fun y => by omega)) (fun y => ?_))))⟩
  by_cases w : 0 ≤ v2 ∧ v2 < 10
  · exact yw_t w (h63 (fun _ => w))
  · exact yw_f w (Kf (fun z' => w (z'.1 z y)))
end
theorem i_vc_code {k : Nat} {u : SX} {v : SY} (I : i_Rel k u v) (hk : k + 5 ≤ 2560) (v1 : Int32) (v2 : Int32) (v3 : Int32) : wpX_code (fun r u' => wpY_code (fun r' v' => r' = r ∧ i_Rel (k + 5) u' v') v v1 v2 v3) u v1 v2 v3 := by
  refine zz_el (P := fun u v => wpX_code (fun r u' => wpY_code (fun r' v' => r' = r ∧ i_Rel (k + 5) u' v') v v1 v2 v3) u v1 v2 v3) ?_ I
  intro nc nm nr np dp pa hm na ln op rk cl nn dc xnd xmd xnh xlv xq xs bl ft xdp sp xss xsm fc xfs ups br ic ii xdc xfd rc rn xqu xwt xsi xtg xnw xfa xsg xnn xtk xrl bop bcl bin bsk bme bli bou xnf xfm xfl xfh ou xem xel ynd ymd ynh ylv yen yow yma fs sc yil ynu ynn yfa yvm yvl yvh F0 F1 F2 F3 F4 F5 F6 F7
  have Z : i_Rel (k + 5) ((nI nc), (nI nm), (nI nr), xnd, xmd, xnh, xlv, xq, xs, bl, ft, xdp, sp, xss, (nI np), (nI dp), xsm, fc, (oF pa), xfs, ups, (nF hm), (nF na), br, (nF ln), (nF op), ic, ii, xdc, xfd, (nF rk), rc, rn, xqu, xwt, xsi, xtg, xnw, xfa, xsg, xnn, xtk, xrl, bop, bcl, bin, bsk, bme, bli, bou, xnf, xfm, xfl, xfh, ou, xem, xel) ((nI nc), (nI nm), (nI nr), ft, ynd, ymd, ynh, ylv, bl, (nI dp), sp, (nI np), yen, fc, br, (oF pa), ups, yow, yma, (nF hm), (nF na), (nF ln), (nF op), fs, sc, (nF rk), rc, rn, yil, ynu, ynn, yfa, yvm, yvl, yvh, ou) := zz_in F0 F1 F2 F3 F4 F5 F6 F7
  have h30 := F1.1
  cases nm with
  | zero =>
    have e1 : nI 0 - 1 = -1 := by decide
    unfold wpX_code
    dsimp only
    rw [e1]
    refine nm_e (br_t (by decide) ?_)
    unfold wpY_code
    dsimp only
    rw [e1]
    exact nm_e (br_t (by decide) ⟨rfl, Z⟩)
  | succ m =>
    have hvm : vp_in (nI m) 30 := vp_in_nI (by omega) (by decide)
    have hl6 := (F1.2.1 m (by omega)).2.2.1
    by_cases hb : br m = 0
    · by_cases hl : ln m = 6
      · unfold wpX_code
        dsimp only
        rw [nI_pred]
        refine nm_e (br_f (nI_pos (by omega)) ⟨hvm, ?_⟩)
        rw [nI_clamp (n := m) (by omega), nF_a]
        refine br_t hb ⟨hvm, br_t (by rw [hl]; rfl) ?_⟩
        unfold wpY_code
        dsimp only
        rw [nI_pred]
        refine nm_e (br_f (nI_pos (by omega)) ⟨hvm, ?_⟩)
        rw [nI_clamp (n := m) (by omega), nF_a]
        exact br_t hb ⟨hvm, br_t (by rw [hl]; rfl) ⟨rfl, Z⟩⟩
      · by_cases w : 0 ≤ v1 ∧ v1 < 6
        · obtain ⟨o, o1, o2⟩ := sd_w (n := 6) (by decide) w
          subst o2
          refine sx_code (by omega) hb (by omega) o1 (fun hn => sy_code (by omega) hb (by omega) o1 (fun _ => ⟨rfl, Z⟩) (fun z => absurd z hn)) (fun hc a b a1 a2 b1 b2 => sy_code (by omega) hb (by omega) o1 (fun z => absurd hc z) (fun _ => ⟨rfl, ?_⟩))
          have hcl : ∃ c, 1 ≤ o → o ≤ 4 → v2 = nI c ∧ c < 10 := by
            by_cases y : 1 ≤ o ∧ o ≤ 4
            · obtain ⟨c, c1, c2⟩ := sd_w (n := 10) (by decide) (hc.1 y.1 y.2)
              exact ⟨c, fun _ _ => ⟨c2, c1⟩⟩
            · exact ⟨0, fun p q => absurd ⟨p, q⟩ y⟩
          have hnn : ∃ n, (o = 2 ∨ o = 3) → v3 = nI n ∧ n < 10 := by
            by_cases y : o = 2 ∨ o = 3
            · obtain ⟨c, c1, c2⟩ := sd_w (n := 10) (by decide) (hc.2 y)
              exact ⟨c, fun _ => ⟨c2, c1⟩⟩
            · exact ⟨0, fun p => absurd p y⟩
          obtain ⟨c, hcc⟩ := hcl
          obtain ⟨n, hnn⟩ := hnn
          refine zz_in F0 (rl_codeM F1 (by omega)) (rl_code (o := o) (c := c) (n := n) F1 F2 (by omega) (by omega) ⟨o1, fun z => ⟨a1 (by omega), b1 (Or.inl z)⟩, fun z => a1 (by omega), fun y z => ?_, fun y => ?_, fun y => b2 (by omega)⟩) F3 F4 F5 F6 (Or.inl rfl)
          · obtain ⟨q1, q2⟩ := hcc (by omega) (by omega)
            exact ⟨(a2 (by omega)).trans q1, q1, q2⟩
          · obtain ⟨q1, q2⟩ := hnn y
            exact ⟨(b1 (by omega)).trans q1, q1, q2⟩
        · unfold wpX_code
          dsimp only
          rw [nI_pred]
          refine nm_e (br_f (nI_pos (by omega)) ⟨hvm, ?_⟩)
          rw [nI_clamp (n := m) (by omega), nF_a]
          refine br_t hb ⟨hvm, pk_eq (ln m) 6 (fun z => absurd z hl) (fun _ => xw_f w ?_)⟩
          unfold wpY_code
          dsimp only
          rw [nI_pred]
          refine nm_e (br_f (nI_pos (by omega)) ⟨hvm, ?_⟩)
          rw [nI_clamp (n := m) (by omega), nF_a]
          exact br_t hb ⟨hvm, pk_eq (ln m) 6 (fun z => absurd z hl) (fun _ => yw_f w ⟨rfl, Z⟩)⟩
    · unfold wpX_code
      dsimp only
      rw [nI_pred]
      refine nm_e (br_f (nI_pos (by omega)) ⟨hvm, ?_⟩)
      rw [nI_clamp (n := m) (by omega), nF_a]
      refine br_f hb ?_
      unfold wpY_code
      dsimp only
      rw [nI_pred]
      refine nm_e (br_f (nI_pos (by omega)) ⟨hvm, ?_⟩)
      rw [nI_clamp (n := m) (by omega), nF_a]
      exact br_f hb ⟨rfl, Z⟩
end
section
/-! answers about what is built: numbers, rows -/
def rl_oc (nc : Nat) (nw : Nat → Option Nat) (c : Nat) : Option Nat := fsm (fun d => if nw d = some c then some d else none) nc
theorem rl_ocI {nc c d : Nat} {nw : Nat → Option Nat} (h : rl_oc nc nw c = some d) : d < nc ∧ nw d = some c := by
  obtain ⟨a, h1, h2, _⟩ := fsm_is h
  split at h2
  · cases h2; exact ⟨h1, by assumption⟩
  · cases h2
theorem rl_ocE {nc c d : Nat} {nw : Nat → Option Nat} (U : ∀ c d k, c < nc → d < nc → nw c = some k → nw d = some k → c = d) (hd : d < nc) (h : nw d = some c) : rl_oc nc nw c = some d := by
  refine fsm_s (a := d) (if_pos h) (fun b hb => if_neg (fun z => ?_)) hd
  have := U b d c (by omega) hd z h
  omega
theorem sw_nfh {nc nm : Nat} {pa : Nat → Option Nat} {fc ups : Nat → Int32} {hm : Nat → Nat} {st : Int32} {N : Nat → Nat} {nf : Nat → Int32 → Option Nat} (C : sp_cls nc fc pa ups) (H : sw_nf nc nm pa hm st N nf) : ∀ c x m, c < nc → nf c x = some m → hm m ≤ c := by
  intro c
  induction c using Nat.strongRecOn with
  | ind c ih =>
    intro x m hc e
    rw [H c x hc] at e
    cases e1 : sw_stn nm hm st N c x with
    | some k => rw [e1] at e; cases e; rw [(sw_stnI e1).2.2.1]; exact Nat.le_refl _
    | none =>
      rw [e1, sp_orn] at e
      unfold sw_par at e
      cases ep : pa c with
      | none => rw [ep] at e; cases e
      | some p =>
        rw [ep] at e
        have h1 := (C.2.2.1 c p hc ep).1
        have h2 := ih p h1 x m (by omega) e
        omega
section
variable {nc nm nr : Nat} {pa : Nat → Option Nat} {hm na ln op rk cl nn : Nat → Nat} {fc ups br ic ii fs sc rc rn : Nat → Int32} {dc fd : Nat → Nat → Option Nat}
variable {xnd xmd xnh xlv xq xs xbt xft xdp xst xss xpt xtr xsm : Int32} {xfs xdc xfd xqu xwt xsi xtg xnw xfa xsg xnn xtk xrl bop bcl bin bsk bme bli bou xnf xfm xfl xfh xou xem xel : Nat → Int32}
variable {ypl ynd ymd ynh ylv ybt ydp yst yot yen : Int32} {yow yma yil ynu ynn yfa yvm yvl yvh ypu : Nat → Int32}
variable {tg nw : Nat → Option Nat} {N : Nat → Nat} {nf : Nat → Int32 → Option Nat}
theorem sx_oldClass2 {post : Int32 → Prop} {c : Nat} (h10 : nc ≤ 10) (HX : ∀ c, c < nc → xnw c = oI (nw c) ∧ ∀ k, nw c = some k → k < 128) (hc : c < 2 ^ 31) (hp : post (oI (rl_oc nc nw c))) :
    ∀ fuel i, i ≤ nc → nc - i < fuel → (∀ d, d < i → ¬ nw d = some c) → wX_oldClass_2 post (nI c) (nI nc) (nI nm) (nI nr) xnd xmd xnh xlv xq xs xbt xft xdp xst xss xpt xtr xsm fc (oF pa) xfs ups (nF hm) (nF na) br (nF ln) (nF op) ic ii xdc xfd (nF rk) rc rn xqu xwt xsi xtg xnw xfa xsg xnn xtk xrl bop bcl bin bsk bme bli bou xnf xfm xfl xfh xou xem xel fuel (nI i) := by
  intro fuel
  induction fuel with
  | zero => intro i _ h; omega
  | succ f ih =>
    intro i hi hf hno
    rw [wX_oldClass_2]
    refine pk_le nc i (fun h => ?_) (fun h => ⟨vp_in_nI (by omega) (by decide), ?_⟩)
    · have e : rl_oc nc nw c = none := fsm_n (fun b hb => if_neg (hno b (by omega)))
      rw [e] at hp; exact hp
    · rw [nI_clamp (n := i) (by omega), (HX i h).1]
      by_cases z : nw i = some c
      · have e : rl_oc nc nw c = some i := fsm_s (a := i) (if_pos z) (fun b hb => if_neg (hno b hb)) h
        rw [e] at hp
        exact br_t (by rw [z]; rfl) hp
      · refine br_f (fun w => z ?_) (nm_r (nI_1 i) (ih (i + 1) (by omega) (by omega) (lt_s hno z)))
        exact oI_inj (fun m e => by have := (HX i h).2 m e; omega) (fun m e => by cases e; exact hc) w
theorem sx_oldClass {post : Int32 → Prop} {c : Nat} (h10 : nc ≤ 10) (HX : ∀ c, c < nc → xnw c = oI (nw c) ∧ ∀ k, nw c = some k → k < 128) (hc : c < 2 ^ 31) (hp : post (oI (rl_oc nc nw c))) : wpX_oldClass post ((nI nc), (nI nm), (nI nr), xnd, xmd, xnh, xlv, xq, xs, xbt, xft, xdp, xst, xss, xpt, xtr, xsm, fc, (oF pa), xfs, ups, (nF hm), (nF na), br, (nF ln), (nF op), ic, ii, xdc, xfd, (nF rk), rc, rn, xqu, xwt, xsi, xtg, xnw, xfa, xsg, xnn, xtk, xrl, bop, bcl, bin, bsk, bme, bli, bou, xnf, xfm, xfl, xfh, xou, xem, xel) (nI c) :=
  ⟨nc + 1, sx_oldClass2 h10 HX hc hp (nc + 1) 0 (by omega) (by omega) (fun d h => by omega)⟩
theorem sy_classOf2 {post : Int32 → Prop} {c : Nat} (h10 : nc ≤ 10) (HX : ∀ c, c < nc → ynu c = oI (nw c) ∧ (bt ynd c = true ↔ ∃ k, nw c = some k) ∧ ∀ k, nw c = some k → k < 128) (hc : c < 2 ^ 31) (hp : post (oI (rl_oc nc nw c))) :
    ∀ fuel i, i ≤ nc → nc - i < fuel → (∀ d, d < i → ¬ nw d = some c) → wY_classOf_2 post (nI c) (nI nc) (nI nm) (nI nr) ypl ynd ymd ynh ylv ybt ydp yst yot yen fc br (oF pa) ups yow yma (nF hm) (nF na) (nF ln) (nF op) fs sc (nF rk) rc rn yil ynu ynn yfa yvm yvl yvh ypu fuel (nI i) := by
  intro fuel
  induction fuel with
  | zero => intro i _ h; omega
  | succ f ih =>
    intro i hi hf hno
    rw [wY_classOf_2]
    refine pk_le nc i (fun h => ?_) (fun h => ?_)
    · have e : rl_oc nc nw c = none := fsm_n (fun b hb => if_neg (hno b (by omega)))
      rw [e] at hp; exact hp
    · obtain ⟨x1, x2, x3⟩ := HX i h
      rw [nI_clamp (n := i) (by omega), x1]
      have hskip : ¬ nw i = some c → ∀ y, y = nI i + 1 → wY_classOf_2 post (nI c) (nI nc) (nI nm) (nI nr) ypl ynd ymd ynh ylv ybt ydp yst yot yen fc br (oF pa) ups yow yma (nF hm) (nF na) (nF ln) (nF op) fs sc (nF rk) rc rn yil ynu ynn yfa yvm yvl yvh ypu f y := fun z => nm_r (nI_1 i) (ih (i + 1) (by omega) (by omega) (lt_s hno z))
      refine yh_b (by omega) (fun hb => hskip (fun z => ?_)) (fun hb => ⟨vp_in_nI (by omega) (by decide), ?_⟩)
      · rw [x2.mpr ⟨c, z⟩] at hb; cases hb
      · by_cases z : nw i = some c
        · have e : rl_oc nc nw c = some i := fsm_s (a := i) (if_pos z) (fun b hb => if_neg (hno b hb)) h
          rw [e] at hp
          exact br_t (by rw [z]; rfl) hp
        · refine br_f (fun w => z ?_) (hskip z)
          exact oI_inj (fun m e => by have := x3 m e; omega) (fun m e => by cases e; exact hc) w
theorem sy_classOf {post : Int32 → Prop} {c : Nat} (h10 : nc ≤ 10) (HX : ∀ c, c < nc → ynu c = oI (nw c) ∧ (bt ynd c = true ↔ ∃ k, nw c = some k) ∧ ∀ k, nw c = some k → k < 128) (hc : c < 2 ^ 31) (hp : post (oI (rl_oc nc nw c))) : wpY_classOf post ((nI nc), (nI nm), (nI nr), ypl, ynd, ymd, ynh, ylv, ybt, ydp, yst, yot, yen, fc, br, (oF pa), ups, yow, yma, (nF hm), (nF na), (nF ln), (nF op), fs, sc, (nF rk), rc, rn, yil, ynu, ynn, yfa, yvm, yvl, yvh, ypu) (nI c) :=
  ⟨nc + 1, sy_classOf2 h10 HX hc hp (nc + 1) 0 (by omega) (by omega) (fun d h => by omega)⟩
theorem sy_grown {post : Int32 → Prop} {j : Nat} (M : sp_mth nc nm fc hm na ln br dc) (T : ∀ j, j < 6 * nm → yil j = oI (tg j) ∧ ∀ t, tg j = some t → t < nm ∧ sp_sh ln op t) (hj : j < 6 * nm) (hp : post (nI (se_gr ln tg j))) : wpY_grown post ((nI nc), (nI nm), (nI nr), ypl, ynd, ymd, ynh, ylv, ybt, ydp, yst, yot, yen, fc, br, (oF pa), ups, yow, yma, (nF hm), (nF na), (nF ln), (nF op), fs, sc, (nF rk), rc, rn, yil, ynu, ynn, yfa, yvm, yvl, yvh, ypu) (nI j) := by
  have h30 := M.1
  obtain ⟨T1, T2⟩ := T j hj
  have hv : vp_in (nI j) 180 := vp_in_nI (by omega) (by decide)
  unfold wpY_grown
  dsimp only
  rw [nI_clamp (n := j) (by omega), T1]
  unfold se_gr at hp
  refine ⟨hv, ?_⟩
  cases e : tg j with
  | none => rw [e] at hp; exact br_f (by decide) hp
  | some t =>
    rw [e] at hp
    have ht := (T2 t e).1
    rw [oI_s, nI_clamp (n := t) (by omega), nF_a, sd_1a]
    exact br_t (nI_pos' (by omega)) ⟨hv, vp_in_nI (by omega) (by decide), hp⟩
theorem sy_stays90 {post : Int32 → Prop} {m : Nat} (M : sp_mth nc nm fc hm na ln br dc) (T : ∀ j, j < 6 * nm → yil j = oI (tg j) ∧ ∀ t, tg j = some t → t < nm ∧ sp_sh ln op t) (hm' : m < nm) (hlv : bt ylv m = true) (hp : post (nI (se_pos ln tg m (ln m)))) :
    ∀ fuel k, k ≤ ln m → ln m - k < fuel → wY_stays_90 post (nI m) (nI nc) (nI nm) (nI nr) ypl ynd ymd ynh ylv ybt ydp yst yot yen fc br (oF pa) ups yow yma (nF hm) (nF na) (nF ln) (nF op) fs sc (nF rk) rc rn yil ynu ynn yfa yvm yvl yvh ypu fuel (nI (se_pos ln tg m k)) (nI (6 * m + k)) := by
  intro fuel
  induction fuel with
  | zero => intro k _ h; omega
  | succ f ih =>
    intro k hk hf
    have h30 := M.1
    have hl := (M.2.1 m hm').2.2.1
    rw [wY_stays_90]
    dsimp only
    rw [sd_x6, nI_clamp (n := m) (by omega), nF_a, nI_add]
    refine ⟨vp_in_nI (by omega) (by decide), pk_le (6 * m + ln m) (6 * m + k) (fun h => ?_) (fun h => ?_)⟩
    · have e : k = ln m := by omega
      rw [e]; exact hp
    · exact yh_t hlv (br_f (by decide) (sy_grown M T (by omega) (nm_r (nI_add _ _) (nm_r (nI_1 _) (ih (k + 1) (by omega) (by omega))))))
theorem sy_told42 {post : Int32 → Prop} {i e w : Nat} {x3 x6 : Int32} {z : Nat} (hx6 : z = 0 ∨ op i = 2 ∨ op i = 3 → x6 = nI (cl i)) (C : sp_cls nc fc pa ups) (M : sp_mth nc nm fc hm na ln br dc) (F : sp_fd nc pa fc ups hm dc fd) (Y : ∀ m, m < nm → bt (ynh ||| ylv) m = true → ∃ r, r < nm ∧ yfa m = nI r ∧ ynn r = nI (N m)) (HX : ∀ c, c < nc → ynu c = oI (nw c)) (hi : i < 180) (he : e < 2) (hz : z < 2) (hw : w < 6) (ho : op i < 6)
    (hc1 : z = 0 → cl i < nc) (h23 : e = 0 → op i = 2 ∨ op i = 3 → ∃ g, cl i < nc ∧ nn i < 10 ∧ sc i = nI (nn i) ∧ fd (cl i) (nn i) = some g ∧ bt (ynh ||| ylv) g = true)
    (p0 : w = 0 → post (nI (if e = 0 then op i else 6))) (p1 : w = 1 → post (if z = 0 then oI (nw (cl i)) else -1))
    (p2 : w = 2 → post (if op i = 0 then sc i else if e = 0 ∧ (op i = 2 ∨ op i = 3) then nI (N ((fd (cl i) (nn i)).getD 0)) else 0))
    (p3 : w = 3 → post (nI (i / 6))) (p4 : w = 4 → post (nI (i % 6))) (p5 : w = 5 → post x3) : wY_told_42 post (nI i) (nI e) x3 (nI w) (nI (op i)) x6 (nI z) (nI nc) (nI nm) (nI nr) ypl ynd ymd ynh ylv ybt ydp yst yot yen fc br (oF pa) ups yow yma (nF hm) (nF na) (nF ln) (nF op) fs sc (nF rk) rc rn yil ynu ynn yfa yvm yvl yvh ypu := by
  have h10 := C.1
  have h30 := M.1
  have hv : vp_in (nI i) 180 := vp_in_nI hi (by decide)
  unfold wY_told_42
  refine br_f (nI_pos (by omega)) (pk_lt 4 w (fun h => p5 (by omega)) (fun h => pk_eq w 0 (fun w0 => ?_) (fun w0 => pk_eq w 1 (fun w1 => ?_) (fun w1 => pk_eq w 2 (fun w2 => ?_) (fun w2 => pk_eq w 3 (fun w3 => ?_) (fun w3 => pk_eq w 4 (fun w4 => ?_) (fun w4 => by omega)))))))
  · have := p0 w0
    refine pk_eq e 0 (fun z => ?_) (fun z => ?_)
    · rw [if_pos z] at this; exact this
    · rw [if_neg z] at this; exact this
  · have := p1 w1
    refine pk_eq z 0 (fun y => ?_) (fun y => ?_)
    · rw [if_pos y] at this
      have hc := hc1 y
      rw [hx6 (Or.inl y), nI_clamp (n := cl i) (by omega), HX _ hc]
      exact ⟨vp_in_nI (by omega) (by decide), this⟩
    · rw [if_neg y] at this; exact this
  · have hp := p2 w2
    have h141n : ¬ (e = 0 ∧ (op i = 2 ∨ op i = 3)) → wY_told_140 post (nI i) (nI (op i)) (nI nc) (nI nm) (nI nr) ypl ynd ymd ynh ylv ybt ydp yst yot yen fc br (oF pa) ups yow yma (nF hm) (nF na) (nF ln) (nF op) fs sc (nF rk) rc rn yil ynu ynn yfa yvm yvl yvh ypu := by
      intro hn
      unfold wY_told_140 wY_told_141
      rw [nI_clamp (n := i) (by omega)]
      refine pk_eq (op i) 0 (fun z => ⟨hv, ?_⟩) (fun z => br_f (by decide) ?_)
      · rw [if_pos z] at hp; exact hp
      · rw [if_neg z, if_neg hn] at hp; exact hp
    have h125 : e = 0 → op i = 2 ∨ op i = 3 → wY_told_125 post (nI i) (nI (op i)) x6 (nI nc) (nI nm) (nI nr) ypl ynd ymd ynh ylv ybt ydp yst yot yen fc br (oF pa) ups yow yma (nF hm) (nF na) (nF ln) (nF op) fs sc (nF rk) rc rn yil ynu ynn yfa yvm yvl yvh ypu := by
      intro e0 o23
      rw [hx6 (Or.inr o23)]
      obtain ⟨g, g1, g2, g3, g4, g5⟩ := h23 e0 o23
      have hgm := (sp_sound C M F _ _ g g1 g4).1
      rw [if_neg (by omega), if_pos ⟨e0, o23⟩, g4] at hp
      unfold wY_told_125
      rw [nI_clamp (n := i) (by omega), g3]
      refine ⟨hv, sy_finds C M F g1 g2 ?_⟩
      rw [g4]
      unfold wY_told_141
      exact pk_eq (op i) 0 (fun z => by omega) (fun _ => br_t (nI_pos' (by omega)) (sy_nameOf h30 Y hgm g5 hp))
    exact pk_eq e 0 (fun e0 => pk_eq (op i) 2 (fun o2 => h125 e0 (Or.inl o2)) (fun o2 => pk_eq (op i) 3 (fun o3 => h125 e0 (Or.inr o3)) (fun o3 => h141n (fun z => z.2.elim o2 o3)))) (fun e0 => h141n (fun z => e0 z.1))
  · rw [sd_d6 (by omega)]; exact ⟨sd_60, p3 w3⟩
  · rw [sd_r6 (by omega)]; exact ⟨sd_60, p4 w4⟩
end
end
section
/-! answers about what is built: stays, line -/
section
variable {nc nm nr : Nat} {pa : Nat → Option Nat} {hm na ln op rk cl nn : Nat → Nat} {fc ups br ic ii fs sc rc rn : Nat → Int32} {dc fd : Nat → Nat → Option Nat}
variable {xnd xmd xnh xlv xq xs xbt xft xdp xst xss xpt xtr xsm : Int32} {xfs xdc xfd xqu xwt xsi xtg xnw xfa xsg xnn xtk xrl bop bcl bin bsk bme bli bou xnf xfm xfl xfh xou xem xel : Nat → Int32}
variable {ypl ynd ymd ynh ylv ybt ydp yst yot yen : Int32} {yow yma yil ynu ynn yfa yvm yvl yvh ypu : Nat → Int32}
variable {tg nw : Nat → Option Nat} {N : Nat → Nat} {nf : Nat → Int32 → Option Nat}
/-- what a row's cell tells -/
def rl_cell (bop bcl bin bme bli bou : Nat → Int32) (b w : Nat) : Int32 := if w = 0 then bop b else if w = 1 then bcl b else if w = 2 then bin b else if w = 3 then bme b else if w = 4 then bli b else bou b
theorem sy_toldH {post : Int32 → Prop} {m k b w : Nat} (C : sp_cls nc fc pa ups) (M : sp_mth nc nm fc hm na ln br dc) (I : sp_ins nm ln op cl nn ic ii fs sc) (F : sp_fd nc pa fc ups hm dc fd) (W : sp_ok nc nm fc br ln op cl nn fd) (Y : ∀ m, m < nm → bt (ynh ||| ylv) m = true → ∃ r, r < nm ∧ yfa m = nI r ∧ ynn r = nI (N m)) (HX : ∀ c, c < nc → ynu c = oI (nw c)) (hX : ∀ m, m < nm → bt (ynh ||| ylv) m = true → xnn m = nI (N m)) (hm' : m < nm) (hk : k < ln m) (hw : w < 6)
    (hst : op (6 * m + k) = 2 ∨ op (6 * m + k) = 3 → tg (6 * m + k) = none → ∀ g, fd (cl (6 * m + k)) (nn (6 * m + k)) = some g → bt (ynh ||| ylv) g = true)
    (ht : ∀ t, tg (6 * m + k) = some t → op (6 * m + k) = 2 ∨ op (6 * m + k) = 3)
    (H : se_head ln op cl nn ii fd tg nw xnn m k b bop bcl bin bsk bme bli bou) (hp : post (rl_cell bop bcl bin bme bli bou b w)) :
    ∀ e, e = (if tg (6 * m + k) = none then 0 else 1) → wpY_told post ((nI nc), (nI nm), (nI nr), ypl, ynd, ymd, ynh, ylv, ybt, ydp, yst, yot, yen, fc, br, (oF pa), ups, yow, yma, (nF hm), (nF na), (nF ln), (nF op), fs, sc, (nF rk), rc, rn, yil, ynu, ynn, yfa, yvm, yvl, yvh, ypu) (nI (6 * m + k)) (nI e) (-1) (nI w) := by
  intro e he
  have h10 := C.1
  have h30 := M.1
  have hl := (M.2.1 m hm').2.2.1
  obtain ⟨n1, n2, n3, n4, n5, n6⟩ := I m k hm' hk
  have hcc := sp_okc W hm' hk
  have hff := sp_okf W hm' hk
  obtain ⟨H1, H2, H3, H4, H5, H6, H7, H8, H9⟩ := H
  have d6 : (6 * m + k) / 6 = m := by omega
  have r6 : (6 * m + k) % 6 = k := by omega
  have hi : 6 * m + k < 180 := by omega
  generalize 6 * m + k = i at *
  have he2 : e < 2 := by rw [he]; split <;> omega
  have hv : vp_in (nI i) 180 := vp_in_nI hi (by decide)
  have h42 : ∀ z x6, z < 2 → (z = 0 ∨ op i = 2 ∨ op i = 3 → x6 = nI (cl i)) → (z = 0 → op i ≠ 0 ∧ op i ≠ 5 ∧ (op i = 3 → e = 0)) → (z = 1 → op i = 0 ∨ op i = 5 ∨ (op i = 3 ∧ e = 1)) → wY_told_42 post (nI i) (nI e) (-1) (nI w) (nI (op i)) x6 (nI z) (nI nc) (nI nm) (nI nr) ypl ynd ymd ynh ylv ybt ydp yst yot yen fc br (oF pa) ups yow yma (nF hm) (nF na) (nF ln) (nF op) fs sc (nF rk) rc rn yil ynu ynn yfa yvm yvl yvh ypu := by
    intro z x6 hz hx6 hz0 hz1
    refine sy_told42 (cl := cl) (nn := nn) hx6 C M F Y HX hi he2 hz hw n1 (fun z0 => hcc (hz0 z0).1 (hz0 z0).2.1) (fun e0 o23 => ?_) (fun w0 => ?_) (fun w1 => ?_) (fun w2 => ?_) (fun w3 => ?_) (fun w4 => ?_) (fun w5 => ?_)
    · obtain ⟨g, hg, _⟩ := hff o23
      obtain ⟨f1, f2, f3⟩ := n5 o23
      have htn : tg i = none := by
        cases et : tg i with
        | none => rfl
        | some t => rw [et, if_neg (by simp)] at he; omega
      exact ⟨g, hcc (by omega) (by omega), f3, f2, hg, hst o23 htn g hg⟩
    · rw [w0] at hp
      have : rl_cell bop bcl bin bme bli bou b 0 = bop b := rfl
      rw [this, H1] at hp
      cases et : tg i with
      | none => rw [et] at hp he; rw [if_pos rfl] at he; rw [if_pos he]; exact hp
      | some t => rw [et] at hp he; rw [if_neg (by simp)] at he; rw [if_neg (by omega)]; exact hp
    · rw [w1] at hp
      have : rl_cell bop bcl bin bme bli bou b 1 = bcl b := rfl
      rw [this, H2] at hp
      by_cases zz : z = 0
      · obtain ⟨q1, q2, q3⟩ := hz0 zz
        rw [if_pos zz]
        have hn : ¬ (op i = 3 ∧ tg i ≠ none) := fun y => by
          have := q3 y.1
          rw [if_neg y.2] at he; omega
        rw [if_neg hn] at hp
        unfold se_hc at hp
        rw [if_neg (by omega)] at hp
        exact hp
      · rw [if_neg zz]
        rcases hz1 (by omega) with q | q | ⟨q, q'⟩
        · rw [if_neg (by omega)] at hp
          unfold se_hc at hp
          rw [if_pos (Or.inl q)] at hp; exact hp
        · rw [if_neg (by omega)] at hp
          unfold se_hc at hp
          rw [if_pos (Or.inr q)] at hp; exact hp
        · have hn : op i = 3 ∧ tg i ≠ none := ⟨q, fun y => by rw [if_pos y] at he; omega⟩
          rw [if_pos hn] at hp; exact hp
    · rw [w2] at hp
      have : rl_cell bop bcl bin bme bli bou b 2 = bin b := rfl
      rw [this] at hp
      cases et : tg i with
      | none =>
        rw [et, if_pos rfl] at he
        by_cases o23 : op i = 2 ∨ op i = 3
        · obtain ⟨g, hg, _⟩ := hff o23
          have hs := hst o23 et g hg
          have hgm := (sp_sound C M F _ _ g (hcc (by omega) (by omega)) hg).1
          rw [if_neg (by omega), if_pos ⟨he, o23⟩, hg]
          rw [H5 et o23 g hg, hX g hgm hs] at hp
          exact hp
        · rw [H4 et (fun y => o23 (Or.inl y)) (fun y => o23 (Or.inr y))] at hp
          by_cases o0 : op i = 0
          · rw [if_pos o0, ← (n2 o0).2]; exact hp
          · rw [if_neg o0, if_neg (fun y => o23 y.2)]
            rw [n6 (by omega)] at hp; exact hp
      | some t =>
        have o23 := ht t et
        rw [et, if_neg (by simp)] at he
        rw [H3 (by rw [et]; simp)] at hp
        rw [if_neg (by omega), if_neg (fun y => by omega)]
        exact hp
    · rw [w3] at hp
      have : rl_cell bop bcl bin bme bli bou b 3 = bme b := rfl
      rw [this, H7] at hp
      rw [d6]; exact hp
    · rw [w4] at hp
      have : rl_cell bop bcl bin bme bli bou b 4 = bli b := rfl
      rw [this, H8] at hp
      rw [r6]; exact hp
    · rw [w5] at hp
      have : rl_cell bop bcl bin bme bli bou b 5 = bou b := rfl
      rw [this, H9] at hp
      exact hp
  unfold wpY_told
  dsimp only
  rw [nI_clamp (n := i) (by omega)]
  refine ⟨hv, nm_r (nF_a op i) ⟨hv, nm_e (pk_eq (op i) 0 (fun o0 => h42 1 (fs i) (by omega) (fun y => by omega) (fun y => by omega) (fun _ => Or.inl o0)) (fun o0 => pk_eq (op i) 5 (fun o5 => h42 1 (fs i) (by omega) (fun y => by omega) (fun y => by omega) (fun _ => Or.inr (Or.inl o5))) (fun o5 => ?_)))⟩⟩
  obtain ⟨e1, e2, e3⟩ := n4 o0 o5
  rw [e2]
  refine pk_eq e 0 (fun e0 => h42 0 _ (by omega) (fun _ => rfl) (fun _ => ⟨o0, o5, fun _ => e0⟩) (fun y => by omega)) (fun e0 => pk_eq (op i) 3 (fun o3 => h42 1 _ (by omega) (fun _ => rfl) (fun y => by omega) (fun _ => Or.inr (Or.inr ⟨o3, by omega⟩))) (fun o3 => h42 0 _ (by omega) (fun _ => rfl) (fun _ => ⟨o0, o5, fun y => absurd y o3⟩) (fun y => by omega)))
theorem sy_toldI {post : Int32 → Prop} {t j k b w i : Nat} (hie : 6 * t + j = i) (C : sp_cls nc fc pa ups) (M : sp_mth nc nm fc hm na ln br dc) (I : sp_ins nm ln op cl nn ic ii fs sc) (F : sp_fd nc pa fc ups hm dc fd) (Y : ∀ m, m < nm → bt (ynh ||| ylv) m = true → ∃ r, r < nm ∧ yfa m = nI r ∧ ynn r = nI (N m)) (HX : ∀ c, c < nc → ynu c = oI (nw c)) (ht : t < nm) (hj : j < ln t) (hw : w < 6) (o05 : op (6 * t + j) = 0 ∨ op (6 * t + j) = 5)
    (H : se_inn op ii t j k b bop bcl bin bme bli bou) (hp : post (rl_cell bop bcl bin bme bli bou b w)) : wpY_told post ((nI nc), (nI nm), (nI nr), ypl, ynd, ymd, ynh, ylv, ybt, ydp, yst, yot, yen, fc, br, (oF pa), ups, yow, yma, (nF hm), (nF na), (nF ln), (nF op), fs, sc, (nF rk), rc, rn, yil, ynu, ynn, yfa, yvm, yvl, yvh, ypu) (nI i) 0 (nI k) (nI w) := by
  subst hie
  have h10 := C.1
  have h30 := M.1
  have hl := (M.2.1 t ht).2.2.1
  obtain ⟨n1, n2, n3, n4, n5, n6⟩ := I t j ht hj
  obtain ⟨H1, H2, H3, H4, H5, H6⟩ := H
  have d6 : (6 * t + j) / 6 = t := by omega
  have r6 : (6 * t + j) % 6 = j := by omega
  have hi : 6 * t + j < 180 := by omega
  generalize 6 * t + j = i at *
  have hv : vp_in (nI i) 180 := vp_in_nI hi (by decide)
  have h42 : ∀ x6, wY_told_42 post (nI i) (nI 0) (nI k) (nI w) (nI (op i)) x6 (nI 1) (nI nc) (nI nm) (nI nr) ypl ynd ymd ynh ylv ybt ydp yst yot yen fc br (oF pa) ups yow yma (nF hm) (nF na) (nF ln) (nF op) fs sc (nF rk) rc rn yil ynu ynn yfa yvm yvl yvh ypu := by
    intro x6
    refine sy_told42 (cl := cl) (nn := nn) (fun y => by omega) C M F Y HX hi (by omega) (by omega) hw n1 (fun y => by omega) (fun _ y => by omega) (fun w0 => ?_) (fun w1 => ?_) (fun w2 => ?_) (fun w3 => ?_) (fun w4 => ?_) (fun w5 => ?_)
    · rw [w0] at hp
      have : rl_cell bop bcl bin bme bli bou b 0 = bop b := rfl
      rw [this, H1] at hp; exact hp
    · rw [w1] at hp
      have : rl_cell bop bcl bin bme bli bou b 1 = bcl b := rfl
      rw [this, H2] at hp; exact hp
    · rw [w2] at hp
      have : rl_cell bop bcl bin bme bli bou b 2 = bin b := rfl
      rw [this, H3] at hp
      by_cases o0 : op i = 0
      · rw [if_pos o0, ← (n2 o0).2]; exact hp
      · rw [if_neg o0, if_neg (by omega)]
        rw [n6 (by omega)] at hp; exact hp
    · rw [w3] at hp
      have : rl_cell bop bcl bin bme bli bou b 3 = bme b := rfl
      rw [this, H4] at hp; rw [d6]; exact hp
    · rw [w4] at hp
      have : rl_cell bop bcl bin bme bli bou b 4 = bli b := rfl
      rw [this, H5] at hp; rw [r6]; exact hp
    · rw [w5] at hp
      have : rl_cell bop bcl bin bme bli bou b 5 = bou b := rfl
      rw [this, H6] at hp; exact hp
  unfold wpY_told
  dsimp only
  rw [nI_clamp (n := i) (by omega)]
  exact ⟨hv, nm_r (nF_a op i) ⟨hv, nm_e (pk_eq (op i) 0 (fun o0 => h42 _) (fun o0 => pk_eq (op i) 5 (fun o5 => h42 _) (fun o5 => by omega)))⟩⟩
theorem sy_line83 {post : Int32 → Prop} {m p w : Nat} (C : sp_cls nc fc pa ups) (M : sp_mth nc nm fc hm na ln br dc) (I : sp_ins nm ln op cl nn ic ii fs sc) (F : sp_fd nc pa fc ups hm dc fd) (W : sp_ok nc nm fc br ln op cl nn fd) (Y : ∀ m, m < nm → bt (ynh ||| ylv) m = true → ∃ r, r < nm ∧ yfa m = nI r ∧ ynn r = nI (N m)) (HX : ∀ c, c < nc → ynu c = oI (nw c)) (hX : ∀ m, m < nm → bt (ynh ||| ylv) m = true → xnn m = nI (N m))
    (T : ∀ j, j < 6 * nm → yil j = oI (tg j) ∧ ∀ t, tg j = some t → t < nm ∧ sp_sh ln op t ∧ (op j = 2 ∨ op j = 3)) (hm' : m < nm) (hw : w < 6) (hp31 : p < 2 ^ 31)
    (hst : ∀ k, k < ln m → op (6 * m + k) = 2 ∨ op (6 * m + k) = 3 → tg (6 * m + k) = none → ∀ g, fd (cl (6 * m + k)) (nn (6 * m + k)) = some g → bt (ynh ||| ylv) g = true)
    (R : ∀ k, k < ln m → se_row ln op cl nn ii fd tg nw xnn m k bop bcl bin bsk bme bli bou)
    (Kf : se_pos ln tg m (ln m) ≤ p → post (-1)) (K : p < se_pos ln tg m (ln m) → post (rl_cell bop bcl bin bme bli bou (24 * m + p) w)) :
    ∀ fuel k q, k ≤ ln m → ln m - k < fuel → se_pos ln tg m k + q = p → wY_line_83 post (nI w) (nI m) (nI nc) (nI nm) (nI nr) ypl ynd ymd ynh ylv ybt ydp yst yot yen fc br (oF pa) ups yow yma (nF hm) (nF na) (nF ln) (nF op) fs sc (nF rk) rc rn yil ynu ynn yfa yvm yvl yvh ypu fuel (nI q) (nI (6 * m + k)) := by
  intro fuel
  induction fuel with
  | zero => intro k _ _ h; omega
  | succ f ih =>
    intro k q hk hf hq
    have h30 := M.1
    have hl := (M.2.1 m hm').2.2.1
    rw [wY_line_83]
    dsimp only
    rw [sd_x6, nI_clamp (n := m) (by omega), nF_a, nI_add]
    refine ⟨vp_in_nI (by omega) (by decide), pk_le (6 * m + ln m) (6 * m + k) (fun h => Kf ?_) (fun h => ?_)⟩
    · have e : k = ln m := by omega
      rw [← e]; omega
    · have hk' : k < ln m := by omega
      have hv : vp_in (nI (6 * m + k)) 180 := vp_in_nI (by omega) (by decide)
      obtain ⟨T1, T2⟩ := T (6 * m + k) (by omega)
      have hps := se_ps (ln := ln) (tg := tg) m k
      have hmo := se_mono' (ln := ln) (tg := tg) (m := m) (show k + 1 ≤ ln m by omega)
      have hg1 : 1 ≤ se_gr ln tg (6 * m + k) := by unfold se_gr; split <;> omega
      have hg4 : se_gr ln tg (6 * m + k) ≤ 4 := by
        cases et : tg (6 * m + k) with
        | none => unfold se_gr; rw [et]; show 1 ≤ 4; omega
        | some t => have := (T2 t et).2.1.1; unfold se_gr; rw [et]; show 1 + ln t ≤ 4; omega
      have Tg : ∀ j, j < 6 * nm → yil j = oI (tg j) ∧ ∀ t, tg j = some t → t < nm ∧ sp_sh ln op t := fun j hj => ⟨(T j hj).1, fun t e => ⟨((T j hj).2 t e).1, ((T j hj).2 t e).2.1⟩⟩
      obtain ⟨R1, R2⟩ := R k hk'
      refine pk_eq q 0 (fun q0 => ⟨hv, ?_⟩) (fun q0 => sy_grown M Tg (by omega) (pk_le (se_gr ln tg (6 * m + k)) q (fun hge => ?_) (fun hlt => ⟨hv, sd_60, ?_⟩)))
      · have hpk := K (by omega)
        have ep : 24 * m + p = 24 * m + se_pos ln tg m k := by omega
        rw [ep] at hpk
        have key : ∀ e, e = (if tg (6 * m + k) = none then 0 else 1) → wpY_told post ((nI nc), (nI nm), (nI nr), ypl, ynd, ymd, ynh, ylv, ybt, ydp, yst, yot, yen, fc, br, (oF pa), ups, yow, yma, (nF hm), (nF na), (nF ln), (nF op), fs, sc, (nF rk), rc, rn, yil, ynu, ynn, yfa, yvm, yvl, yvh, ypu) (nI (6 * m + k)) (nI e) (-1) (nI w) := sy_toldH C M I F W Y HX hX hm' hk' hw (hst k hk') (fun t e => (T2 t e).2.2) R1 hpk
        rw [nI_clamp (n := 6 * m + k) (by omega), T1]
        unfold wY_line_124
        cases et : tg (6 * m + k) with
        | none => exact br_t (by decide) (key 0 (by rw [et, if_pos rfl]))
        | some t =>
          have := (T2 t et).1
          exact br_f (nI_pos (by omega)) (key 1 (by rw [et, if_neg (by simp)]))
      · refine sy_grown M Tg (by omega) (nm_r (pk_sub hge) (nm_r (nI_1 _) (ih (k + 1) _ (by omega) (by omega) (by omega))))
      · cases et : tg (6 * m + k) with
        | none =>
          have : se_gr ln tg (6 * m + k) = 1 := by unfold se_gr; rw [et]
          omega
        | some t =>
          have eg : se_gr ln tg (6 * m + k) = 1 + ln t := by unfold se_gr; rw [et]
          obtain ⟨t1, t2, t3⟩ := T2 t et
          have hl3 := t2.1
          obtain ⟨q', rfl⟩ : ∃ q', q = q' + 1 := ⟨q - 1, by omega⟩
          have hpk := K (by omega)
          have ep : 24 * m + p = 24 * m + se_pos ln tg m k + 1 + q' := by omega
          rw [ep] at hpk
          have r6 : (6 * m + k) % 6 = k := by omega
          have hsub : nI (6 * t + (q' + 1)) - 1 = nI (6 * t + q') := nI_pred (6 * t + q')
          rw [nI_clamp (n := 6 * m + k) (by omega), T1, et, oI_s, sd_x6, nI_add, hsub, sd_r6 (by omega), r6]
          exact sy_toldI rfl C M I F Y HX t1 (by omega) hw (t2.2 q' (by omega)) (R2 t q' et (by omega)) hpk
end
end
section
/-! the answers stays and line -/
theorem i_vc_stays {k : Nat} {u : SX} {v : SY} (I : i_Rel k u v) (hk : k + 5 ≤ 2560) (v1 : Int32) (v2 : Int32) : wpX_stays (fun r => wpY_stays (fun r' => r' = r ∧ i_Rel (k + 5) u v) v v1 v2) u v1 v2 := by
  refine zz_el (P := fun u v => wpX_stays (fun r => wpY_stays (fun r' => r' = r ∧ i_Rel (k + 5) u v) v v1 v2) u v1 v2) ?_ I
  intro nc nm nr np dp pa hm na ln op rk cl nn dc xnd xmd xnh xlv xq xs bl ft xdp sp xss xsm fc xfs ups br ic ii xdc xfd rc rn xqu xwt xsi xtg xnw xfa xsg xnn xtk xrl bop bcl bin bsk bme bli bou xnf xfm xfl xfh ou xem xel ynd ymd ynh ylv yen yow yma fs sc yil ynu ynn yfa yvm yvl yvh F0 F1 F2 F3 F4 F5 F6 F7
  have Z : i_Rel (k + 5) ((nI nc), (nI nm), (nI nr), xnd, xmd, xnh, xlv, xq, xs, bl, ft, xdp, sp, xss, (nI np), (nI dp), xsm, fc, (oF pa), xfs, ups, (nF hm), (nF na), br, (nF ln), (nF op), ic, ii, xdc, xfd, (nF rk), rc, rn, xqu, xwt, xsi, xtg, xnw, xfa, xsg, xnn, xtk, xrl, bop, bcl, bin, bsk, bme, bli, bou, xnf, xfm, xfl, xfh, ou, xem, xel) ((nI nc), (nI nm), (nI nr), ft, ynd, ymd, ynh, ylv, bl, (nI dp), sp, (nI np), yen, fc, br, (oF pa), ups, yow, yma, (nF hm), (nF na), (nF ln), (nF op), fs, sc, (nF rk), rc, rn, yil, ynu, ynn, yfa, yvm, yvl, yvh, ou) := zz_in F0 F1 F2 F3 F4 F5 F6 F7
  have h10 := F0.1
  have h30 := F1.1
  unfold wpX_stays
  dsimp only
  rcases F7 with e | ⟨e, e1, e2, e3, B⟩
  · refine br_t e ?_
    unfold wpY_stays
    exact br_t e ⟨rfl, Z⟩
  · have hne : ¬ bl = 0 := by rw [e]; decide
    obtain ⟨fd, tg, nw, N, nf, B1, B2, B3, B4, B5, B6, B7, B8, B9, B10, B11, B12, B13, B14, B15⟩ := B
    refine br_f hne ?_
    by_cases w1 : 0 ≤ v1 ∧ v1 < nI nm
    · refine xw_t w1 ?_
      by_cases w2 : 0 ≤ v2 ∧ v2 < 3
      · refine xw_t w2 ?_
        obtain ⟨m, m1, m2⟩ := sd_w (by omega) w1
        subst m2
        have hvm : vp_in (nI m) 30 := vp_in_nI (by omega) (by decide)
        have hY : ∀ {post : Int32 → Prop}, (v2 = 0 → bt ylv m = true → post 2) → (v2 = 0 → bt ylv m = false → bt (ynh ||| ylv) m = true → post 1) → (v2 = 0 → ¬ bt (ynh ||| ylv) m = true → post 0) → (¬ v2 = 0 → ¬ bt (ynh ||| ylv) m = true → post (-1)) → (v2 = 1 → bt (ynh ||| ylv) m = true → post (nI (N m))) → (¬ v2 = 0 → ¬ v2 = 1 → bt (ynh ||| ylv) m = true → post (xrl m)) → wpY_stays post ((nI nc), (nI nm), (nI nr), ft, ynd, ymd, ynh, ylv, bl, (nI dp), sp, (nI np), yen, fc, br, (oF pa), ups, yow, yma, (nF hm), (nF na), (nF ln), (nF op), fs, sc, (nF rk), rc, rn, yil, ynu, ynn, yfa, yvm, yvl, yvh, ou) (nI m) v2 := by
          intro post p2 p1 p0 pm pn pr
          unfold wpY_stays
          dsimp only
          refine br_f hne (yw_t w1 (yw_t w2 (br_c (fun z0 => yh_b (by omega) (fun hb => sy_remains (by omega) (fun hs => p0 z0 hs) (fun hs => p1 z0 hb hs)) (fun hb => p2 z0 hb)) (fun z0 => sy_remains (by omega) (fun hs => pm z0 hs) (fun hs => br_c (fun z1 => ?_) (fun z1 => ?_))))))
          · rw [e3] at hs
            refine sy_nameOf h30 (fun m a b => by rw [e3] at b; exact (B11 m a b).2.2) m1 (by rw [e3]; exact hs) (pn z1 (by rw [e3]; exact hs))
          · rw [sd_x6]
            refine nm_e ⟨ln m + 1, ?_⟩
            have hpr := pr z0 z1 hs
            rw [B15 m m1] at hpr
            have Tg : ∀ j, j < 6 * nm → yil j = oI (tg j) ∧ ∀ t, tg j = some t → t < nm ∧ sp_sh ln op t := fun j hj => ⟨(B8 j hj).2.1, fun t et => ⟨((B8 j hj).2.2 t et).1, ((B8 j hj).2.2 t et).2.1⟩⟩
            have hl := (F1.2.1 m m1).2.2.1
            by_cases hlv : bt xlv m = true
            · rw [if_pos hlv] at hpr
              exact sy_stays90 F1 Tg m1 (by rw [e2]; exact hlv) hpr (ln m + 1) 0 (by omega) (by omega)
            · rw [if_neg hlv] at hpr
              rw [wY_stays_90]
              dsimp only
              rw [sd_x6, nI_clamp (n := m) (by omega), nF_a, nI_add]
              exact ⟨hvm, br_c (fun _ => hpr) (fun _ => yh_f (by omega) (by rw [e2]; exact b_nf hlv) (br_t rfl hpr))⟩
        refine sx_stands (by omega) (fun hs => br_c (fun z0 => ?_) (fun z0 => ?_)) (fun hs => br_c (fun z0 => ?_) (fun z0 => br_c (fun z1 => ⟨hvm, ?_⟩) (fun z1 => ⟨hvm, ?_⟩)))
        · have hs' : ¬ bt (ynh ||| ylv) m = true := by rw [e3]; exact hs
          have hl' : ¬ bt ylv m = true := fun y => hs (by rw [e2] at y; exact b_orl y)
          exact hY (fun _ y => absurd y hl') (fun _ _ y => absurd y hs') (fun _ _ => ⟨rfl, Z⟩) (fun y => absurd z0 y) (fun _ y => absurd y hs') (fun _ _ y => absurd y hs')
        · have hs' : ¬ bt (ynh ||| ylv) m = true := by rw [e3]; exact hs
          exact hY (fun y => absurd y z0) (fun y => absurd y z0) (fun y => absurd y z0) (fun _ _ => ⟨rfl, Z⟩) (fun _ y => absurd y hs') (fun _ _ y => absurd y hs')
        · have hs' : bt (ynh ||| ylv) m = true := by rw [e3]; exact hs
          refine xh_b (by omega) (fun hb => ?_) (fun hb => ?_)
          · exact hY (fun _ y => by rw [e2, hb] at y; cases y) (fun _ _ _ => ⟨rfl, Z⟩) (fun _ y => absurd hs' y) (fun y => absurd z0 y) (fun y => by rw [z0] at y; exact absurd y (by decide)) (fun y => absurd z0 y)
          · exact hY (fun _ _ => ⟨rfl, Z⟩) (fun _ y => by rw [e2, hb] at y; cases y) (fun _ y => absurd hs' y) (fun y => absurd z0 y) (fun y => by rw [z0] at y; exact absurd y (by decide)) (fun y => absurd z0 y)
        · have hs' : bt (ynh ||| ylv) m = true := by rw [e3]; exact hs
          rw [nI_clamp (n := m) (by omega), (B11 m m1 hs).2.1]
          exact hY (fun y => absurd y z0) (fun y => absurd y z0) (fun y => absurd y z0) (fun _ y => absurd hs' y) (fun _ _ => ⟨rfl, Z⟩) (fun _ y => absurd z1 y)
        · have hs' : bt (ynh ||| ylv) m = true := by rw [e3]; exact hs
          rw [nI_clamp (n := m) (by omega)]
          exact hY (fun y => absurd y z0) (fun y => absurd y z0) (fun y => absurd y z0) (fun _ y => absurd hs' y) (fun y => absurd y z1) (fun _ _ _ => ⟨rfl, Z⟩)
      · refine xw_f w2 ?_
        unfold wpY_stays
        exact br_f hne (yw_t w1 (yw_f w2 ⟨rfl, Z⟩))
    · refine xw_f w1 ?_
      unfold wpY_stays
      exact br_f hne (yw_f w1 ⟨rfl, Z⟩)
theorem i_vc_line {k : Nat} {u : SX} {v : SY} (I : i_Rel k u v) (hk : k + 5 ≤ 2560) (v1 : Int32) (v2 : Int32) (v3 : Int32) (v4 : Int32) : wpX_line (fun r => wpY_line (fun r' => r' = r ∧ i_Rel (k + 5) u v) v v1 v2 v3 v4) u v1 v2 v3 v4 := by
  refine zz_el (P := fun u v => wpX_line (fun r => wpY_line (fun r' => r' = r ∧ i_Rel (k + 5) u v) v v1 v2 v3 v4) u v1 v2 v3 v4) ?_ I
  intro nc nm nr np dp pa hm na ln op rk cl nn dc xnd xmd xnh xlv xq xs bl ft xdp sp xss xsm fc xfs ups br ic ii xdc xfd rc rn xqu xwt xsi xtg xnw xfa xsg xnn xtk xrl bop bcl bin bsk bme bli bou xnf xfm xfl xfh ou xem xel ynd ymd ynh ylv yen yow yma fs sc yil ynu ynn yfa yvm yvl yvh F0 F1 F2 F3 F4 F5 F6 F7
  have Z : i_Rel (k + 5) ((nI nc), (nI nm), (nI nr), xnd, xmd, xnh, xlv, xq, xs, bl, ft, xdp, sp, xss, (nI np), (nI dp), xsm, fc, (oF pa), xfs, ups, (nF hm), (nF na), br, (nF ln), (nF op), ic, ii, xdc, xfd, (nF rk), rc, rn, xqu, xwt, xsi, xtg, xnw, xfa, xsg, xnn, xtk, xrl, bop, bcl, bin, bsk, bme, bli, bou, xnf, xfm, xfl, xfh, ou, xem, xel) ((nI nc), (nI nm), (nI nr), ft, ynd, ymd, ynh, ylv, bl, (nI dp), sp, (nI np), yen, fc, br, (oF pa), ups, yow, yma, (nF hm), (nF na), (nF ln), (nF op), fs, sc, (nF rk), rc, rn, yil, ynu, ynn, yfa, yvm, yvl, yvh, ou) := zz_in F0 F1 F2 F3 F4 F5 F6 F7
  have h10 := F0.1
  have h30 := F1.1
  have h38n : ∀ {post : Int32 → Prop}, post (-1) → wY_line_38 post v3 v4 (-1) (nI nc) (nI nm) (nI nr) ft ynd ymd ynh ylv bl (nI dp) sp (nI np) yen fc br (oF pa) ups yow yma (nF hm) (nF na) (nF ln) (nF op) fs sc (nF rk) rc rn yil ynu ynn yfa yvm yvl yvh ou := fun hp => br_t (by decide) hp
  have h20n : ∀ {post : Int32 → Prop}, post (-1) → wY_line_20 post v2 v3 v4 (-1) (nI nc) (nI nm) (nI nr) ft ynd ymd ynh ylv bl (nI dp) sp (nI np) yen fc br (oF pa) ups yow yma (nF hm) (nF na) (nF ln) (nF op) fs sc (nF rk) rc rn yil ynu ynn yfa yvm yvl yvh ou := fun hp => br_f (by decide) (h38n hp)
  unfold wpX_line
  dsimp only
  rcases F7 with e | ⟨e, e1, e2, e3, B⟩
  · refine br_t e ?_
    unfold wpY_line
    exact br_t e (h20n ⟨rfl, Z⟩)
  · have hne : ¬ bl = 0 := by rw [e]; decide
    obtain ⟨fd, tg, nw, N, nf, B1, B2, B3, B4, B5, B6, B7, B8, B9, B10, B11, B12, B13, B14, B15⟩ := B
    have HX : ∀ c, c < nc → xnw c = oI (nw c) ∧ ∀ k, nw c = some k → k < 128 := fun c hc => ⟨(B9 c hc).1, (B9 c hc).2.2.2⟩
    have HY : ∀ c, c < nc → ynu c = oI (nw c) ∧ (bt ynd c = true ↔ ∃ k, nw c = some k) ∧ ∀ k, nw c = some k → k < 128 := fun c hc => ⟨(B9 c hc).2.1, by rw [e1]; exact (B9 c hc).2.2.1, (B9 c hc).2.2.2⟩
    have YN : ∀ m, m < nm → bt (ynh ||| ylv) m = true → ∃ r, r < nm ∧ yfa m = nI r ∧ ynn r = nI (N m) := fun m a b => by rw [e3] at b; exact (B11 m a b).2.2
    have hstn : sw_stn nm hm (ynh ||| ylv) N = sw_stn nm hm (xlv ||| xnh) N := by rw [e3]
    -- the reference from a class that is found on
    have hYc : ∀ {post : Int32 → Prop}, (∀ c, 0 ≤ v1 → v1 = nI c → c < 2 ^ 31 → wY_line_20 post v2 v3 v4 (oI (rl_oc nc nw c)) (nI nc) (nI nm) (nI nr) ft ynd ymd ynh ylv bl (nI dp) sp (nI np) yen fc br (oF pa) ups yow yma (nF hm) (nF na) (nF ln) (nF op) fs sc (nF rk) rc rn yil ynu ynn yfa yvm yvl yvh ou) → (v1 < 0 → post (-1)) → wpY_line post ((nI nc), (nI nm), (nI nr), ft, ynd, ymd, ynh, ylv, bl, (nI dp), sp, (nI np), yen, fc, br, (oF pa), ups, yow, yma, (nF hm), (nF na), (nF ln), (nF op), fs, sc, (nF rk), rc, rn, yil, ynu, ynn, yfa, yvm, yvl, yvh, ou) v1 v2 v3 v4 := by
      intro post p1 p2
      unfold wpY_line
      dsimp only
      refine br_f hne (br_c (fun hl => h20n (p2 hl)) (fun hl => ?_))
      obtain ⟨c, c1, c2⟩ := nI_of hl
      have := p1 c (Int32.not_lt.mp hl) c2 c1
      rw [c2]
      exact sy_classOf h10 HY c1 this
    have hYs : ∀ {post : Int32 → Prop} {d : Nat}, d < nc → wY_line_38 post v3 v4 (oI (sw_stn nm hm (xlv ||| xnh) N d v2)) (nI nc) (nI nm) (nI nr) ft ynd ymd ynh ylv bl (nI dp) sp (nI np) yen fc br (oF pa) ups yow yma (nF hm) (nF na) (nF ln) (nF op) fs sc (nF rk) rc rn yil ynu ynn yfa yvm yvl yvh ou → wY_line_20 post v2 v3 v4 (nI d) (nI nc) (nI nm) (nI nr) ft ynd ymd ynh ylv bl (nI dp) sp (nI np) yen fc br (oF pa) ups yow yma (nF hm) (nF na) (nF ln) (nF op) fs sc (nF rk) rc rn yil ynu ynn yfa yvm yvl yvh ou := by
      intro post d hd hp
      unfold wY_line_20
      refine br_t (nI_pos' (by omega)) (sy_standing F1 h10 YN hd ?_)
      rw [hstn]; exact hp
    -- what is not there
    have hbad : ∀ {post : Int32 → Prop}, (∀ c d m, v1 = nI c → rl_oc nc nw c = some d → sw_stn nm hm (xlv ||| xnh) N d v2 = some m → ¬ (bt xlv m = true ∧ 0 ≤ v3 ∧ (0 ≤ v4 ∧ v4 < 6))) → post (-1) → wpY_line post ((nI nc), (nI nm), (nI nr), ft, ynd, ymd, ynh, ylv, bl, (nI dp), sp, (nI np), yen, fc, br, (oF pa), ups, yow, yma, (nF hm), (nF na), (nF ln), (nF op), fs, sc, (nF rk), rc, rn, yil, ynu, ynn, yfa, yvm, yvl, yvh, ou) v1 v2 v3 v4 := by
      intro post hn hp
      refine hYc (fun c _ c2 c1 => ?_) (fun _ => hp)
      cases eo : rl_oc nc nw c with
      | none => exact h20n hp
      | some d =>
        obtain ⟨d1, d2⟩ := rl_ocI eo
        refine hYs d1 ?_
        cases es : sw_stn nm hm (xlv ||| xnh) N d v2 with
        | none => exact h38n hp
        | some m =>
          have hm' := (sw_stnI es).1
          unfold wY_line_38
          refine br_f (nI_pos (by omega)) (yh_b (by omega) (fun _ => hp) (fun hb => br_c (fun _ => hp) (fun h3 => ?_)))
          by_cases w4 : 0 ≤ v4 ∧ v4 < 6
          · exact absurd ⟨by rw [e2] at hb; exact hb, Int32.not_lt.mp h3, w4⟩ (hn c d m c2 eo es)
          · exact yw_f w4 hp
    refine br_f hne ?_
    by_cases w2 : 0 ≤ v2 ∧ v2 < 32
    · refine xw_t w2 (br_c (fun h3 => br_c (fun h1 => ?_) (fun h1 => ?_)) (fun h3 => ?_))
      · obtain ⟨c, c1, c2⟩ := nI_of (Int32.not_lt.mpr h1)
        obtain ⟨n, n1, n2⟩ := sd_w (n := 32) (by decide) w2
        obtain ⟨p, p1, p2⟩ := nI_of (Int32.not_lt.mpr h3)
        subst c2
        refine sx_oldClass h10 HX c1 ?_
        cases eo : rl_oc nc nw c with
        | none =>
          refine br_f (by decide) (br_t (by decide) (hbad (fun c' d m ec ed => ?_) ⟨rfl, Z⟩))
          obtain ⟨d1, d2⟩ := rl_ocI ed
          have : c' = c := by
            by_cases hc' : c' < 2 ^ 31
            · exact (sd_inj c1 hc' ec).symm
            · have := (B9 d d1).2.2.2 c' d2; omega
          rw [this, eo] at ed; cases ed
        | some d =>
          obtain ⟨d1, d2⟩ := rl_ocI eo
          have hcd : ∀ c' d', nI c = nI c' → rl_oc nc nw c' = some d' → d' = d := by
            intro c' d' ec ed
            obtain ⟨q1, q2⟩ := rl_ocI ed
            have hc128 := (B9 d' q1).2.2.2 c' q2
            have : c = c' := sd_inj c1 (by omega) ec
            rw [← this, eo] at ed; cases ed; rfl
          unfold wX_line_35
          rw [oI_s, n2, sd_x32, nI_add, nI_clamp (n := 32 * d + n) (by omega), B13 d n d1 n1]
          refine br_t (nI_pos' (by omega)) ⟨vp_in_nI (by omega) (by decide), ?_⟩
          unfold wX_line_58
          rw [← n2]
          have hnf := B12 d v2 d1
          cases es : sw_stn nm hm (xlv ||| xnh) N d v2 with
          | none =>
            rw [es, sp_orn] at hnf
            have hb0 : ∀ {post : Int32 → Prop}, post (-1) → wpY_line post ((nI nc), (nI nm), (nI nr), ft, ynd, ymd, ynh, ylv, bl, (nI dp), sp, (nI np), yen, fc, br, (oF pa), ups, yow, yma, (nF hm), (nF na), (nF ln), (nF op), fs, sc, (nF rk), rc, rn, yil, ynu, ynn, yfa, yvm, yvl, yvh, ou) (nI c) v2 v3 v4 := fun hp => hbad (fun c' d' m ec ed em => by rw [hcd c' d' ec ed, es] at em; cases em) hp
            cases ef : nf d v2 with
            | none => exact br_t (by decide) (hb0 ⟨rfl, Z⟩)
            | some m =>
              have hm' := sw_nfb F0 B12 d _ m d1 ef
              have hne2 : hm m ≠ d := by
                rw [ef] at hnf
                unfold sw_par at hnf
                cases ep : pa d with
                | none => rw [ep] at hnf; cases hnf
                | some q =>
                  rw [ep] at hnf
                  have h1 := (F0.2.2.1 d q d1 ep).1
                  have h2 := sw_nfh F0 B12 q _ m (by omega) hnf.symm
                  omega
              have hh := (F1.2.1 m hm').1
              rw [oI_s, nI_clamp (n := m) (by omega), nF_a]
              exact br_f (nI_pos (by omega)) ⟨vp_in_nI (by omega) (by decide), pk_eq (hm m) d (fun z => absurd z hne2) (fun _ => hb0 ⟨rfl, Z⟩)⟩
          | some m =>
            rw [es, sp_ors] at hnf
            obtain ⟨hm', hs, hmd, hN⟩ := sw_stnI es
            have hvm : vp_in (nI m) 30 := vp_in_nI (by omega) (by decide)
            have hl := (F1.2.1 m hm').2.2.1
            rw [hnf, oI_s, nI_clamp (n := m) (by omega), nF_a, B15 m hm', sd_x24]
            refine br_f (nI_pos (by omega)) ⟨hvm, pk_eq (hm m) d (fun _ => ⟨hvm, ?_⟩) (fun z => absurd hmd z)⟩
            have hb1 : ∀ {post : Int32 → Prop}, ¬ (bt xlv m = true ∧ 0 ≤ v3 ∧ (0 ≤ v4 ∧ v4 < 6)) → post (-1) → wpY_line post ((nI nc), (nI nm), (nI nr), ft, ynd, ymd, ynh, ylv, bl, (nI dp), sp, (nI np), yen, fc, br, (oF pa), ups, yow, yma, (nF hm), (nF na), (nF ln), (nF op), fs, sc, (nF rk), rc, rn, yil, ynu, ynn, yfa, yvm, yvl, yvh, ou) (nI c) v2 v3 v4 := fun hn hp => hbad (fun c' d' m' ec ed em => by rw [hcd c' d' ec ed, es] at em; cases em; exact hn) hp
            by_cases hlv : bt xlv m = true
            · rw [if_pos hlv]
              have hgo : ∀ {post : Int32 → Prop} {w : Nat}, v4 = nI w → w < 6 → (se_pos ln tg m (ln m) ≤ p → post (-1)) → (p < se_pos ln tg m (ln m) → post (rl_cell bop bcl bin bme bli bou (24 * m + p) w)) → wpY_line post ((nI nc), (nI nm), (nI nr), ft, ynd, ymd, ynh, ylv, bl, (nI dp), sp, (nI np), yen, fc, br, (oF pa), ups, yow, yma, (nF hm), (nF na), (nF ln), (nF op), fs, sc, (nF rk), rc, rn, yil, ynu, ynn, yfa, yvm, yvl, yvh, ou) (nI c) v2 v3 v4 := by
                intro post w ew hw q1 q2
                refine hYc (fun c' _ ec hc' => ?_) (fun z => absurd z (nI_pos c1))
                have : c = c' := sd_inj c1 hc' ec
                rw [← this, eo]
                refine hYs d1 ?_
                rw [es, oI_s]
                unfold wY_line_38
                refine br_f (nI_pos (by omega)) (yh_b (by omega) (fun hb => by rw [e2, hlv] at hb; cases hb) (fun _ => br_f (Int32.not_lt.mpr h3) ?_))
                rw [ew, p2]
                refine yw_t (sd_wi (n := 6) hw (by decide)) ?_
                rw [sd_x6]
                refine nm_e ⟨ln m + 1, ?_⟩
                exact sy_line83 F0 F1 F2 B1 B2 YN (fun c hc => (B9 c hc).2.1) (fun m a b => by rw [e3] at b; exact (B11 m a b).2.1) (fun j hj => (B8 j hj).2) hm' hw p1 (fun k hk a b g hg => by rw [e3]; exact (B7 m k hm' hlv hk).2.1 a b g hg) (fun k hk => B14 m k hm' hlv hk) q1 q2 (ln m + 1) 0 p (by omega) (by omega) (by show 0 + p = p; omega)
              have hpos : se_pos ln tg m (ln m) ≤ 24 := by
                have := se_4 (ln := ln) (tg := tg) (m := m) (fun k hk => by
                  cases et : tg (6 * m + k) with
                  | none => unfold se_gr; rw [et]; show 1 ≤ 4; omega
                  | some t => have := ((B8 (6 * m + k) (by omega)).2.2 t et).2.1.1; unfold se_gr; rw [et]; show 1 + ln t ≤ 4; omega) (ln m) (Nat.le_refl _)
                omega
              by_cases w4 : 0 ≤ v4 ∧ v4 < 6
              · obtain ⟨w, w5, w6⟩ := sd_w (n := 6) (by decide) w4
                rw [p2]
                refine pk_lt p (se_pos ln tg m (ln m)) (fun hlt => ?_) (fun hge => ?_)
                · have hb : 24 * m + p < 720 := by omega
                  have hvb : vp_in (nI (24 * m + p)) 720 := vp_in_nI hb (by decide)
                  rw [w6]
                  have hfin : ∀ x, x = rl_cell bop bcl bin bme bli bou (24 * m + p) w → wpY_line (fun r' => r' = x ∧ i_Rel (k + 5) ((nI nc), (nI nm), (nI nr), xnd, xmd, xnh, xlv, xq, xs, bl, ft, xdp, sp, xss, (nI np), (nI dp), xsm, fc, (oF pa), xfs, ups, (nF hm), (nF na), br, (nF ln), (nF op), ic, ii, xdc, xfd, (nF rk), rc, rn, xqu, xwt, xsi, xtg, xnw, xfa, xsg, xnn, xtk, xrl, bop, bcl, bin, bsk, bme, bli, bou, xnf, xfm, xfl, xfh, ou, xem, xel) ((nI nc), (nI nm), (nI nr), ft, ynd, ymd, ynh, ylv, bl, (nI dp), sp, (nI np), yen, fc, br, (oF pa), ups, yow, yma, (nF hm), (nF na), (nF ln), (nF op), fs, sc, (nF rk), rc, rn, yil, ynu, ynn, yfa, yvm, yvl, yvh, ou)) ((nI nc), (nI nm), (nI nr), ft, ynd, ymd, ynh, ylv, bl, (nI dp), sp, (nI np), yen, fc, br, (oF pa), ups, yow, yma, (nF hm), (nF na), (nF ln), (nF op), fs, sc, (nF rk), rc, rn, yil, ynu, ynn, yfa, yvm, yvl, yvh, ou) (nI c) v2 (nI p) (nI w) := by
                    intro x ex
                    rw [← p2, ← w6]
                    exact hgo w6 w5 (fun z => by omega) (fun _ => ⟨ex.symm, Z⟩)
                  refine nm_r (nI_add _ _) (br_f (nI_pos (by omega)) (pk_lt 5 w (fun z => by omega) (fun _ => ?_)))
                  rw [nI_clamp (n := 24 * m + p) (by omega)]
                  refine pk_eq w 0 (fun z => ⟨hvb, hfin _ ?_⟩) (fun z0 => pk_eq w 1 (fun z => ⟨hvb, hfin _ ?_⟩) (fun z1 => pk_eq w 2 (fun z => ⟨hvb, hfin _ ?_⟩) (fun z2 => pk_eq w 3 (fun z => ⟨hvb, hfin _ ?_⟩) (fun z3 => pk_eq w 4 (fun z => ⟨hvb, hfin _ ?_⟩) (fun z4 => pk_eq w 5 (fun z => ⟨hvb, hfin _ ?_⟩) (fun z5 => by omega))))))
                  all_goals (rw [z]; rfl)
                · have hg2 := hgo (post := fun r' => r' = -1 ∧ i_Rel (k + 5) ((nI nc), (nI nm), (nI nr), xnd, xmd, xnh, xlv, xq, xs, bl, ft, xdp, sp, xss, (nI np), (nI dp), xsm, fc, (oF pa), xfs, ups, (nF hm), (nF na), br, (nF ln), (nF op), ic, ii, xdc, xfd, (nF rk), rc, rn, xqu, xwt, xsi, xtg, xnw, xfa, xsg, xnn, xtk, xrl, bop, bcl, bin, bsk, bme, bli, bou, xnf, xfm, xfl, xfh, ou, xem, xel) ((nI nc), (nI nm), (nI nr), ft, ynd, ymd, ynh, ylv, bl, (nI dp), sp, (nI np), yen, fc, br, (oF pa), ups, yow, yma, (nF hm), (nF na), (nF ln), (nF op), fs, sc, (nF rk), rc, rn, yil, ynu, ynn, yfa, yvm, yvl, yvh, ou)) w6 w5 (fun _ => ⟨rfl, Z⟩) (fun z => by omega)
                  rw [p2] at hg2
                  exact hg2
              · have hbn : wpY_line (fun r' => r' = -1 ∧ i_Rel (k + 5) ((nI nc), (nI nm), (nI nr), xnd, xmd, xnh, xlv, xq, xs, bl, ft, xdp, sp, xss, (nI np), (nI dp), xsm, fc, (oF pa), xfs, ups, (nF hm), (nF na), br, (nF ln), (nF op), ic, ii, xdc, xfd, (nF rk), rc, rn, xqu, xwt, xsi, xtg, xnw, xfa, xsg, xnn, xtk, xrl, bop, bcl, bin, bsk, bme, bli, bou, xnf, xfm, xfl, xfh, ou, xem, xel) ((nI nc), (nI nm), (nI nr), ft, ynd, ymd, ynh, ylv, bl, (nI dp), sp, (nI np), yen, fc, br, (oF pa), ups, yow, yma, (nF hm), (nF na), (nF ln), (nF op), fs, sc, (nF rk), rc, rn, yil, ynu, ynn, yfa, yvm, yvl, yvh, ou)) ((nI nc), (nI nm), (nI nr), ft, ynd, ymd, ynh, ylv, bl, (nI dp), sp, (nI np), yen, fc, br, (oF pa), ups, yow, yma, (nF hm), (nF na), (nF ln), (nF op), fs, sc, (nF rk), rc, rn, yil, ynu, ynn, yfa, yvm, yvl, yvh, ou) (nI c) v2 v3 v4 := hb1 (fun z => w4 z.2.2) ⟨rfl, Z⟩
                refine br_c (fun _ => nm_e (br_c (fun _ => hbn) (fun q => br_c (fun _ => hbn) (fun q2 => ?_)))) (fun _ => hbn)
                exact absurd ⟨Int32.not_lt.mp q, Int32.lt_of_le_of_lt (Int32.not_lt.mp q2) (by decide)⟩ w4
            · rw [if_neg hlv]
              refine br_f (fun z => ?_) (hb1 (fun z => hlv z.1) ⟨rfl, Z⟩)
              rw [p2, nI_ltI p1 (by decide)] at z
              omega
      · unfold wX_line_35 wX_line_58
        exact br_f (by decide) (br_t (by decide) (hYc (fun c h => absurd h h1) (fun _ => ⟨rfl, Z⟩)))
      · exact hbad (fun _ _ _ _ _ _ z => h3 z.2.1) ⟨rfl, Z⟩
    · refine xw_f w2 (hbad (fun c d m _ ed em => ?_) ⟨rfl, Z⟩)
      obtain ⟨m1, m2, m3, m4⟩ := sw_stnI em
      have := (B11 m m1 m2).1
      exact absurd (by rw [← m4]; exact sd_wi (n := 32) this (by decide)) w2
end
section
/-! building: the loops of both, the chain of the component -/
theorem sm_XRe {nc nm nr : Nat} {ups : Nat → Int32} {hm na ln : Nat → Nat} {br : Nat → Int32} {op cl nn : Nat → Nat} {fd : Nat → Nat → Option Nat} {tg : Nat → Option Nat} {rk : Nat → Nat} {rc rn : Nat → Int32} {nd md nh lv nd' md' nh' lv' : Int32} (h : sm_XR nc nm nr ups hm na ln br op cl nn fd tg rk rc rn nd md nh lv) (h' : sm_XR nc nm nr ups hm na ln br op cl nn fd tg rk rc rn nd' md' nh' lv') :
    nd' = nd ∧ md' = md ∧ lv' = lv ∧ (nh' ||| lv') = (lv ||| nh) := by
  refine ⟨b_iff fun i _ => (h'.1 i).trans (h.1 i).symm, b_iff fun i _ => (h'.2.1 i).trans (h.2.1 i).symm, b_iff fun i _ => (h'.2.2.2 i).trans (h.2.2.2 i).symm, b_iff fun i _ => ?_⟩
  rw [b_or, b_or, Bool.or_eq_true, Bool.or_eq_true]
  exact (or_comm.trans (h'.2.2.1 i)).trans (h.2.2.1 i).symm
section
variable {nc nm nr : Nat} {pa : Nat → Option Nat} {hm na ln op rk cl nn : Nat → Nat} {fc ups br ic ii fs sc rc rn : Nat → Int32} {dc fd : Nat → Nat → Option Nat}
variable {xnd xmd xnh xlv xq xs xbt xft xdp xst xss xpt xtr xsm : Int32} {xfs xdc xfd xqu xwt xsi xtg xnw xfa xsg xnn xtk xrl bop bcl bin bsk bme bli bou xnf xfm xfl xfh xou xem xel : Nat → Int32}
variable {ypl ynd ymd ynh ylv ybt ydp yst yot yen : Int32} {yow yma yil ynu ynn yfa yvm yvl yvh ypu : Nat → Int32}
variable {tg nw : Nat → Option Nat} {N : Nat → Nat} {nf : Nat → Int32 → Option Nat}
theorem sx_build18 {post : Int32 → SX → Prop} (h30 : nm ≤ 30)
    (K : ∀ (f : Nat) (xtg : Nat → Int32), (∀ j, j < 6 * nm → xtg j = -1) → wX_build_18 post (nI nc) (nI nm) (nI nr) xnd xmd xnh xlv xq xs xbt xft xdp xst xss xpt xtr xsm (f + 1) (nI (6 * nm)) fc (oF pa) xfs ups (nF hm) (nF na) br (nF ln) (nF op) ic ii xdc xfd (nF rk) rc rn xqu xwt xsi xtg xnw xfa xsg xnn xtk xrl bop bcl bin bsk bme bli bou xnf xfm xfl xfh xou xem xel) :
    ∀ fuel i (xtg : Nat → Int32), i ≤ 6 * nm → 6 * nm - i < fuel → (∀ j, j < i → xtg j = -1) → wX_build_18 post (nI nc) (nI nm) (nI nr) xnd xmd xnh xlv xq xs xbt xft xdp xst xss xpt xtr xsm fuel (nI i) fc (oF pa) xfs ups (nF hm) (nF na) br (nF ln) (nF op) ic ii xdc xfd (nF rk) rc rn xqu xwt xsi xtg xnw xfa xsg xnn xtk xrl bop bcl bin bsk bme bli bou xnf xfm xfl xfh xou xem xel := by
  intro fuel
  induction fuel with
  | zero => intro i _ _ h; omega
  | succ f ih =>
    intro i xtg hi hf h1
    rcases Nat.lt_or_ge i (6 * nm) with h | h
    · rw [wX_build_18]
      dsimp only
      rw [sd_x6]
      refine pk_le (6 * nm) i (fun z => by omega) (fun _ => ⟨vp_in_nI (by omega) (by decide), ?_⟩)
      rw [nI_clamp (n := i) (by omega), sd_vbm]
      refine nm_e (nm_r (nI_1 i) (ih (i + 1) _ (by omega) (by omega) (fun j hj => ?_)))
      by_cases z : j = i
      · rw [z, pk_us]
      · rw [pk_un z]; exact h1 j (by omega)
    · have e : i = 6 * nm := by omega
      rw [e]
      exact K f xtg (fun j hj => h1 j (by omega))
theorem sx_build68 {post : Int32 → SX → Prop} (C : sp_cls nc fc pa ups) (M : sp_mth nc nm fc hm na ln br dc) (I : sp_ins nm ln op cl nn ic ii fs sc) (F : sp_fd nc pa fc ups hm dc fd) (W : sp_ok nc nm fc br ln op cl nn fd) (A : ∀ a b, a < nc → b < 10 → xfd (10 * a + b) = oI (fd a b)) (T : ∀ j, j < 6 * nm → xtg j = oI (tg j) ∧ ∀ t, tg j = some t → t < nm ∧ sp_sh ln op t)
    (HW : ∀ c, c < nc → xnw c = oI (nw c) ∧ ∀ k, nw c = some k → k < 128) (H : sw_nf nc nm pa hm (xlv ||| xnh) N nf) (U : ∀ a b, a < nm → b < nm → bt (xlv ||| xnh) a = true → bt (xlv ||| xnh) b = true → hm a = hm b → N a = N b → a = b) (hN : ∀ m, m < nm → bt (xlv ||| xnh) m = true → N m < 32) (hX : ∀ m, m < nm → bt (xlv ||| xnh) m = true → xnn m = nI (N m))
    (K : ∀ xrl bop bcl bin bsk bme bli bou xnf : Nat → Int32, (∀ m k, m < nm → bt xlv m = true → k < ln m → se_row ln op cl nn ii fd tg nw xnn m k bop bcl bin bsk bme bli bou) → (∀ m, m < nm → xrl m = nI (if bt xlv m = true then se_pos ln tg m (ln m) else 0)) → (∀ a n, a < nc → n < 32 → xnf (32 * a + n) = oI (nf a (nI n))) → post 0 ((nI nc), (nI nm), (nI nr), xnd, xmd, xnh, xlv, xq, xs, 1, xft, xdp, xst, xss, xpt, xtr, xsm, fc, (oF pa), xfs, ups, (nF hm), (nF na), br, (nF ln), (nF op), ic, ii, xdc, xfd, (nF rk), rc, rn, xqu, xwt, xsi, xtg, xnw, xfa, xsg, xnn, xtk, xrl, bop, bcl, bin, bsk, bme, bli, bou, xnf, xfm, xfl, xfh, xou, xem, xel)) :
    ∀ fuel i (xrl bop bcl bin bsk bme bli bou : Nat → Int32), i ≤ nm → nm - i < fuel → (∀ m k, m < i → bt xlv m = true → k < ln m → se_row ln op cl nn ii fd tg nw xnn m k bop bcl bin bsk bme bli bou) → (∀ m, m < i → xrl m = nI (if bt xlv m = true then se_pos ln tg m (ln m) else 0)) → wX_build_68 post fuel (nI i) (nI nc) (nI nm) (nI nr) xnd xmd xnh xlv xq xs xbt xft xdp xst xss xpt xtr xsm fc (oF pa) xfs ups (nF hm) (nF na) br (nF ln) (nF op) ic ii xdc xfd (nF rk) rc rn xqu xwt xsi xtg xnw xfa xsg xnn xtk xrl bop bcl bin bsk bme bli bou xnf xfm xfl xfh xou xem xel := by
  have h30 := M.1
  have h4 : ∀ m, m < nm → se_pos ln tg m (ln m) ≤ 24 := by
    intro m hm'
    have hl := (M.2.1 m hm').2.2.1
    have := se_4 (ln := ln) (tg := tg) (m := m) (fun k hk => by
      cases et : tg (6 * m + k) with
      | none => unfold se_gr; rw [et]; show 1 ≤ 4; omega
      | some t => have := ((T (6 * m + k) (by omega)).2 t et).2.1; unfold se_gr; rw [et]; show 1 + ln t ≤ 4; omega) (ln m) (Nat.le_refl _)
    omega
  intro fuel
  induction fuel with
  | zero => intro i _ _ _ _ _ _ _ _ _ h; omega
  | succ f ih =>
    intro i xrl bop bcl bin bsk bme bli bou hi hf h1 h2
    rw [wX_build_68]
    refine pk_le nm i (fun h => ?_) (fun h => ?_)
    · refine sx_tableAnew C M H U hN hX (fun xnf' h' => K _ _ _ _ _ _ _ _ _ (fun m k hm' => h1 m k (by omega)) (fun m hm' => h2 m (by omega)) h')
    · refine sx_emit C M I F W A T HW h (se_ag_r (B := 24 * i) (o := bop) (c := bcl) (i := bin) (s := bsk) (m := bme) (l := bli) (u := bou)) (fun bop' bcl' bin' bsk' bme' bli' bou' ha hr => nm_r (nI_1 i) (ih (i + 1) _ _ _ _ _ _ _ _ (by omega) (by omega) (fun m k hm' hlv hk => ?_) (fun m hm' => ?_)))
      · by_cases z : m = i
        · rw [z] at hlv hk ⊢
          exact hr hlv k hk
        · refine se_rT (h1 m k (by omega) hlv hk) ha ?_
          have e1 := se_mono' (ln := ln) (tg := tg) (m := m) (show k + 1 ≤ ln m by omega)
          have e2 := h4 m (by omega)
          omega
      · by_cases z : m = i
        · rw [z, pk_us]
        · rw [pk_un z]; exact h2 m (by omega)
theorem sy_build23 {post : Int32 → SY → Prop}
    (K : ∀ (f : Nat) (yil : Nat → Int32), (∀ j, j < 180 → yil j = -1) → wY_build_23 post (nI nc) (nI nm) (nI nr) ypl ynd ymd ynh ylv ybt ydp yst yot yen (f + 1) (nI 180) fc br (oF pa) ups yow yma (nF hm) (nF na) (nF ln) (nF op) fs sc (nF rk) rc rn yil ynu ynn yfa yvm yvl yvh ypu) :
    ∀ fuel i (yil : Nat → Int32), i ≤ 180 → 180 - i < fuel → (∀ j, j < i → yil j = -1) → wY_build_23 post (nI nc) (nI nm) (nI nr) ypl ynd ymd ynh ylv ybt ydp yst yot yen fuel (nI i) fc br (oF pa) ups yow yma (nF hm) (nF na) (nF ln) (nF op) fs sc (nF rk) rc rn yil ynu ynn yfa yvm yvl yvh ypu := by
  intro fuel
  induction fuel with
  | zero => intro i _ _ h; omega
  | succ f ih =>
    intro i yil hi hf h1
    rcases Nat.lt_or_ge i 180 with h | h
    · rw [wY_build_23]
      refine pk_le 180 i (fun z => by omega) (fun _ => ⟨vp_in_nI h (by decide), ?_⟩)
      rw [nI_clamp (n := i) (by omega)]
      refine nm_e (nm_r (nI_1 i) (ih (i + 1) _ (by omega) (by omega) (fun j hj => ?_)))
      by_cases z : j = i
      · rw [z, pk_us]
      · rw [pk_un z]; exact h1 j (by omega)
    · have e : i = 180 := by omega
      rw [e]
      exact K f yil (fun j hj => h1 j (by omega))
end
/-- what is known behind building, of the component -/
def sb_X (nc nm nr : Nat) (pa : Nat → Option Nat) (fc ups : Nat → Int32) (hm na ln : Nat → Nat) (br : Nat → Int32) (op cl nn : Nat → Nat) (ii : Nat → Int32) (dc fd : Nat → Nat → Option Nat) (rk : Nat → Nat) (rc rn : Nat → Int32) (nd0 md0 nh0 lv0 xnd xmd xnh xlv : Int32) (xtg xnw xnn xrl bop bcl bin bsk bme bli bou xnf : Nat → Int32) (nw : Nat → Option Nat) (R : Nat → Nat) (nam : Nat → Option Nat) (N : Nat → Nat) (nf : Nat → Int32 → Option Nat) : Prop :=
  sm_XR nc nm nr ups hm na ln br op cl nn fd (fun _ => none) rk rc rn nd0 md0 nh0 lv0 ∧
  sm_XR nc nm nr ups hm na ln br op cl nn fd (sp_tg nc ups br ln op cl nn fd lv0 md0) rk rc rn xnd xmd xnh xlv ∧
  (∀ j, j < 6 * nm → xtg j = oI (sp_tg nc ups br ln op cl nn fd lv0 md0 j)) ∧ sp_num nc nr rc xnd nw ∧ (∀ c, c < nc → xnw c = oI (nw c)) ∧
  sf_R nc nm ups hm na xnd (xlv ||| xnh) R ∧ sn_sp nc nm nr ups rc rn hm na xnd (xlv ||| xnh) R nam ∧
  (∀ m, m < nm → bt (xlv ||| xnh) m = true → nam (R m) = some (N m) ∧ N m < 32 ∧ xnn m = nI (N m)) ∧
  sw_DF nc nm ups hm na xnd (xlv ||| xnh) N ∧ sw_nf nc nm pa hm (xlv ||| xnh) N nf ∧ (∀ a n, a < nc → n < 32 → xnf (32 * a + n) = oI (nf a (nI n))) ∧
  (∀ m k, m < nm → bt xlv m = true → k < ln m → se_row ln op cl nn ii fd (sp_tg nc ups br ln op cl nn fd lv0 md0) nw xnn m k bop bcl bin bsk bme bli bou) ∧
  (∀ m, m < nm → xrl m = nI (if bt xlv m = true then se_pos ln (sp_tg nc ups br ln op cl nn fd lv0 md0) m (ln m) else 0))
section
variable {nc nm nr : Nat} {pa : Nat → Option Nat} {hm na ln op rk cl nn : Nat → Nat} {fc ups br ic ii fs sc rc rn : Nat → Int32} {dc fd : Nat → Nat → Option Nat}
variable {xnd xmd xnh xlv xq xs xbt xft xdp xst xss xpt xtr xsm : Int32} {xfs xdc xfd xqu xwt xsi xtg xnw xfa xsg xnn xtk xrl bop bcl bin bsk bme bli bou xnf xfm xfl xfh xou xem xel : Nat → Int32}
variable {ypl ynd ymd ynh ylv ybt ydp yst yot yen : Int32} {yow yma yil ynu ynn yfa yvm yvl yvh ypu : Nat → Int32}
theorem sb_tgs {lv md : Int32} (C : sp_cls nc fc pa ups) (M : sp_mth nc nm fc hm na ln br dc) (F : sp_fd nc pa fc ups hm dc fd) (W : sp_ok nc nm fc br ln op cl nn fd) {j t : Nat} (hj : j < 6 * nm) (h : sp_tg nc ups br ln op cl nn fd lv md j = some t) : t < nm ∧ sp_sh ln op t ∧ (op j = 2 ∨ op j = 3) := by
  unfold sp_tg at h
  split at h
  · rename_i hc
    obtain ⟨e1, e2, e3⟩ := sp_cuts h
    have hq : j / 6 < nm := by omega
    have hsp : 6 * (j / 6) + j % 6 = j := by omega
    obtain ⟨q1, q2⟩ := sp_tcs C M F (fun o3 => by
      have := sp_okc W hq hc.1 (by rw [hsp]; omega) (by rw [hsp]; omega)
      rw [hsp] at this; exact this) e1
    exact ⟨q1, e3, q2⟩
  · cases h
theorem sb_sets {tg : Nat → Option Nat} {nd md nh lv : Int32} (C : sp_cls nc fc pa ups) (M : sp_mth nc nm fc hm na ln br dc) (F : sp_fd nc pa fc ups hm dc fd) (W : sp_ok nc nm fc br ln op cl nn fd) (X : sm_XR nc nm nr ups hm na ln br op cl nn fd tg rk rc rn nd md nh lv) :
    (∀ c, bt nd c = true → c < nc) ∧ (∀ m, bt (lv ||| nh) m = true → m < nm) ∧ (∀ m, bt lv m = true → bt (lv ||| nh) m = true ∧ br m = 0) ∧ (∀ m, bt (lv ||| nh) m = true → bt nd (hm m) = true) ∧ (∀ c a, c < nc → bt nd c = true → bt (ups c) a = true → bt nd a = true) ∧
    (∀ m k, m < nm → bt lv m = true → k < ln m → (op (6 * m + k) ≠ 0 → op (6 * m + k) ≠ 5 → (op (6 * m + k) = 3 → tg (6 * m + k) = none) → bt nd (cl (6 * m + k)) = true) ∧
      (op (6 * m + k) = 2 ∨ op (6 * m + k) = 3 → tg (6 * m + k) = none → ∀ g, fd (cl (6 * m + k)) (nn (6 * m + k)) = some g → bt (lv ||| nh) g = true) ∧
      (op (6 * m + k) = 3 → tg (6 * m + k) = none → ∀ g, fd (cl (6 * m + k)) (nn (6 * m + k)) = some g → bt lv g = true)) := by
  obtain ⟨x0, x1, x2, x3⟩ := X
  have hst : ∀ m, bt (lv ||| nh) m = true ↔ sm_ML nc nm nr ups hm na ln br op cl nn fd tg rk rc rn 2 m := fun m => by rw [b_or, Bool.or_eq_true]; exact x2 m
  refine ⟨fun c h => (sm_rng C M F W ((x0 c).mp h)).1 (Or.inl rfl), fun m h => (sm_rng C M F W ((hst m).mp h)).2.1 rfl, fun m h => ⟨b_orl h, ((sm_rng C M F W ((x3 m).mp h)).2.2 rfl).2⟩, fun m h => ?_, fun c a hc h ha => ?_, fun m k hm' hlv hk => ?_⟩
  · have h2 := (hst m).mp h
    exact (x0 _).mpr (sm_MLc.2.2.1 m ((sm_rng C M F W h2).2.1 rfl) h2)
  · exact (x0 _).mpr (sm_MLc.2.2.2.2.1 c a hc ((x0 c).mp h) ha)
  · obtain ⟨l1, l2, l3, l4, l5⟩ := sm_MLc.2.2.2.2.2 m k hm' ((x3 m).mp hlv) hk
    refine ⟨fun a b c => (x0 _).mpr (l1 a b c), fun a b g hg => ?_, fun a b g hg => (x3 _).mpr (l4 a b g hg)⟩
    rcases a with a | a
    · exact (hst g).mpr (l3 a b g hg)
    · exact b_orl ((x3 g).mpr (l4 a b g hg))
theorem sx_chain {post : Int32 → SX → Prop} (C : sp_cls nc fc pa ups) (M : sp_mth nc nm fc hm na ln br dc) (I : sp_ins nm ln op cl nn ic ii fs sc) (U : sp_rul nr rk) (F : sp_fd nc pa fc ups hm dc fd) (W : sp_ok nc nm fc br ln op cl nn fd) (A : ∀ a b, a < nc → b < 10 → xfd (10 * a + b) = oI (fd a b))
    (K : ∀ (nd0 md0 nh0 lv0 xnd xmd xnh xlv xq xs : Int32) (xqu xwt xsi xtg xnw xfa xsg xnn xtk xrl bop bcl bin bsk bme bli bou xnf : Nat → Int32) (nw : Nat → Option Nat) (R : Nat → Nat) (nam : Nat → Option Nat) (N : Nat → Nat) (nf : Nat → Int32 → Option Nat),
      sb_X nc nm nr pa fc ups hm na ln br op cl nn ii dc fd rk rc rn nd0 md0 nh0 lv0 xnd xmd xnh xlv xtg xnw xnn xrl bop bcl bin bsk bme bli bou xnf nw R nam N nf → post 0 ((nI nc), (nI nm), (nI nr), xnd, xmd, xnh, xlv, xq, xs, 1, xft, xdp, xst, xss, xpt, xtr, xsm, fc, (oF pa), xfs, ups, (nF hm), (nF na), br, (nF ln), (nF op), ic, ii, xdc, xfd, (nF rk), rc, rn, xqu, xwt, xsi, xtg, xnw, xfa, xsg, xnn, xtk, xrl, bop, bcl, bin, bsk, bme, bli, bou, xnf, xfm, xfl, xfh, xou, xem, xel)) : ∃ n18, wX_build_18 post (nI nc) (nI nm) (nI nr) xnd xmd xnh xlv xq xs xbt xft xdp xst xss xpt xtr xsm n18 0 fc (oF pa) xfs ups (nF hm) (nF na) br (nF ln) (nF op) ic ii xdc xfd (nF rk) rc rn xqu xwt xsi xtg xnw xfa xsg xnn xtk xrl bop bcl bin bsk bme bli bou xnf xfm xfl xfh xou xem xel := by
  have h10 := C.1
  have h30 := M.1
  refine ⟨6 * nm + 1, ?_⟩
  rw [← nI_0]
  refine sx_build18 h30 (fun f xtg htg => ?_) (6 * nm + 1) 0 xtg (by omega) (by omega) (fun j hj => by omega)
  rw [wX_build_18]
  dsimp only
  rw [sd_x6]
  refine pk_le (6 * nm) (6 * nm) (fun _ => ?_) (fun z => by omega)
  have hidx : ∀ m k, m < nm → k < ln m → 6 * m + k < 6 * nm := fun m k hm' hk => by
    have := (M.2.1 m hm').2.2.1
    omega
  refine sx_mark (tg := fun _ => none) C M I U F W A (fun m k hm' hk => ⟨htg _ (hidx m k hm' hk), fun t e => by cases e⟩) (fun nd0 md0 nh0 lv0 q0 s0 qu0 wt0 si0 X0 => ?_)
  dsimp only
  refine sx_inline C M I F W A htg (fun xtg htg2 => ?_)
  have T : ∀ j, j < 6 * nm → xtg j = oI (sp_tg nc ups br ln op cl nn fd lv0 md0 j) ∧ ∀ t, sp_tg nc ups br ln op cl nn fd lv0 md0 j = some t → t < nm ∧ sp_sh ln op t := fun j hj => ⟨htg2 j hj, fun t e => by
    obtain ⟨a, b, _⟩ := sb_tgs C M F W hj e
    exact ⟨a, b⟩⟩
  dsimp only
  refine sx_mark (tg := sp_tg nc ups br ln op cl nn fd lv0 md0) C M I U F W A (fun m k hm' hk => ⟨htg2 _ (hidx m k hm' hk), fun t e => by have := ((T _ (hidx m k hm' hk)).2 t e).1; omega⟩) (fun xnd xmd xnh xlv xq xs xqu xwt xsi X => ?_)
  obtain ⟨s1, s2, s3, s4, s5, s6⟩ := sb_sets C M F W X
  obtain ⟨nw, hnw⟩ := sp_numX (nc := nc) (nr := nr) (rc := rc) (nd := xnd) h10 nc (Nat.le_refl _)
  have hnb : ∀ c, c < nc → ∀ k, nw c = some k → k < 128 := fun c hc k e => by
    have := sp_numB h10 nc (Nat.le_refl _) hnw c k hc e
    omega
  dsimp only
  refine sx_number h10 U.1 hnw (fun xnw hx => ?_)
  dsimp only
  refine sx_relate C M (fun xfa xsg R HF HR HS => ?_)
  obtain ⟨nam, HN⟩ := sn_ex (nc := nc) (nm := nm) (nr := nr) (ups := ups) (rc := rc) (rn := rn) (hm := hm) (na := na) (nd := xnd) (st := xlv ||| xnh) (R := R)
  dsimp only
  refine sx_rename C M U.1 HF HR HS HN (fun xnn xtk hnn => ?_)
  have hna : ∀ m, m < nm → na m < 10 := fun m hm' => (M.2.1 m hm').2.1
  have hNam : ∀ m, m < nm → bt (xlv ||| xnh) m = true → ∃ n, nam (R m) = some n ∧ n < 30 := fun m hm' hs => by
    have := HR.2.1 m hm'
    exact sn_bd h30 hna HN (by omega) (sf_st HR.2.2 hm' hs) (sf_idem HR hm')
  have hN : ∀ m, m < nm → bt (xlv ||| xnh) m = true → nam (R m) = some ((nam (R m)).getD 0) ∧ (nam (R m)).getD 0 < 32 := fun m hm' hs => by
    obtain ⟨n, n1, n2⟩ := hNam m hm' hs
    rw [n1]
    exact ⟨rfl, by show n < 32; omega⟩
  have hD : sw_DF nc nm ups hm na xnd (xlv ||| xnh) (fun m => (nam (R m)).getD 0) := by
    intro a b e ha hb sa sb he hnd ua ub eN
    have a1 := HR.2.1 a ha
    have b1 := HR.2.1 b hb
    have e1 := (hN a ha sa).1
    have e2 := (hN b hb sb).1
    dsimp only at eN
    rw [eN] at e1
    have := sn_diff HR HN (e := e) (by omega) (by omega) (sf_st HR.2.2 ha sa) (sf_st HR.2.2 hb sb) (sf_idem HR ha) (sf_idem HR hb) ⟨he, hnd, a, ha, sa, rfl, ua⟩ ⟨he, hnd, b, hb, sb, rfl, ub⟩ e1 e2
    rw [← sf_name HR.2.2 ha, ← sf_name HR.2.2 hb, this]
  obtain ⟨nf, hnf⟩ := sw_nfx (nm := nm) (hm := hm) (st := xlv ||| xnh) (N := fun m => (nam (R m)).getD 0) C
  have hX : ∀ m, m < nm → bt (xlv ||| xnh) m = true → xnn m = nI ((nam (R m)).getD 0) := fun m hm' hs => by
    rw [hnn m hm' hs, (hN m hm' hs).1]; rfl
  dsimp only
  refine ⟨nm + 1, ?_⟩
  rw [← nI_0]
  refine sx_build68 C M I F W A T (fun c hc => ⟨hx c hc, hnb c hc⟩) hnf (fun a b ha hb sa sb e1 e2 => sw_UQ C M hD (fun m _ hs => s4 m hs) ha hb sa sb e1 e2) (fun m hm' hs => (hN m hm' hs).2) hX (fun xrl bop bcl bin bsk bme bli bou xnf k1 k2 k3 => ?_) (nm + 1) 0 xrl bop bcl bin bsk bme bli bou (by omega) (by omega) (fun m k h => by omega) (fun m h => by omega)
  exact K nd0 md0 nh0 lv0 _ _ _ _ _ _ _ _ _ _ _ _ _ _ _ _ _ _ _ _ _ _ _ _ nw R nam (fun m => (nam (R m)).getD 0) nf ⟨X0, X, htg2, hnw, hx, HR, HN, fun m hm' hs => ⟨(hN m hm' hs).1, (hN m hm' hs).2, hX m hm' hs⟩, hD, hnf, k3, k1, k2⟩
end
end
section
/-! building: both -/
section
variable {nc nm nr : Nat} {pa : Nat → Option Nat} {hm na ln op rk cl nn : Nat → Nat} {fc ups br ic ii fs sc rc rn : Nat → Int32} {dc fd : Nat → Nat → Option Nat}
variable {xnd xmd xnh xlv xq xs xbt xft xdp xst xss xpt xtr xsm : Int32} {xfs xdc xfd xqu xwt xsi xtg xnw xfa xsg xnn xtk xrl bop bcl bin bsk bme bli bou xnf xfm xfl xfh xou xem xel : Nat → Int32}
variable {ypl ynd ymd ynh ylv ybt ydp yst yot yen : Int32} {yow yma yil ynu ynn yfa yvm yvl yvh ypu : Nat → Int32}
theorem sy_chain {post : Int32 → SY → Prop} {nd0 md0 nh0 lv0 xnd xmd xnh xlv : Int32} {xtg xnw xnn xrl bop bcl bin bsk bme bli bou xnf : Nat → Int32} {nw : Nat → Option Nat} {R : Nat → Nat} {nam : Nat → Option Nat} {N : Nat → Nat} {nf : Nat → Int32 → Option Nat} (C : sp_cls nc fc pa ups) (M : sp_mth nc nm fc hm na ln br dc) (I : sp_ins nm ln op cl nn ic ii fs sc) (U : sp_rul nr rk) (F : sp_fd nc pa fc ups hm dc fd) (W : sp_ok nc nm fc br ln op cl nn fd)
    (X : sb_X nc nm nr pa fc ups hm na ln br op cl nn ii dc fd rk rc rn nd0 md0 nh0 lv0 xnd xmd xnh xlv xtg xnw xnn xrl bop bcl bin bsk bme bli bou xnf nw R nam N nf)
    (K : ∀ (ymd ynh : Int32) (yil ynu ynn yfa : Nat → Int32), (ynh ||| xlv) = (xlv ||| xnh) → (∀ j, j < 6 * nm → yil j = oI (sp_tg nc ups br ln op cl nn fd lv0 md0 j)) → (∀ c, c < nc → ynu c = oI (nw c)) → (∀ m, m < nm → bt (xlv ||| xnh) m = true → ∃ r, r < nm ∧ yfa m = nI r ∧ ynn r = nI (N m)) → post 0 ((nI nc), (nI nm), (nI nr), ypl, xnd, ymd, ynh, xlv, 1, ydp, yst, yot, yen, fc, br, (oF pa), ups, yow, yma, (nF hm), (nF na), (nF ln), (nF op), fs, sc, (nF rk), rc, rn, yil, ynu, ynn, yfa, yvm, yvl, yvh, ypu)) : ∃ n23, wY_build_23 post (nI nc) (nI nm) (nI nr) ypl ynd ymd ynh ylv ybt ydp yst yot yen n23 0 fc br (oF pa) ups yow yma (nF hm) (nF na) (nF ln) (nF op) fs sc (nF rk) rc rn yil ynu ynn yfa yvm yvl yvh ypu := by
  have h10 := C.1
  have h30 := M.1
  obtain ⟨X0, X1, X2, X3, X4, X5, X6, X7, X8, X9, X10, X11, X12⟩ := X
  have hidx : ∀ m k, m < nm → k < ln m → 6 * m + k < 6 * nm := fun m k hm' hk => by
    have := (M.2.1 m hm').2.2.1
    omega
  refine ⟨181, ?_⟩
  rw [← nI_0]
  refine sy_build23 (fun f yil hil => ?_) 181 0 yil (by omega) (by omega) (fun j hj => by omega)
  rw [wY_build_23]
  refine pk_le 180 180 (fun _ => ?_) (fun z => by omega)
  refine sy_mark (tg := fun _ => none) C M I U F W (fun m k hm' hk => ⟨hil _ (by have := hidx m k hm' hk; omega), fun t e => by cases e⟩) (fun ynd1 ymd1 ynh1 ylv1 Y0 => ?_)
  dsimp only
  obtain ⟨_, q2, q3, _⟩ := sm_XRe X0 Y0
  subst q2; subst q3
  refine ⟨6 * nm + 1, ?_⟩
  rw [← nI_0]
  refine sy_build49 C M I F W (fun f yil hil2 => ?_) (6 * nm + 1) 0 yil (by omega) (by omega) ⟨fun j _ hj => by omega, fun j hj _ => hil j (by omega)⟩
  rw [wY_build_49]
  dsimp only
  rw [sd_x6]
  refine pk_le (6 * nm) (6 * nm) (fun _ => ?_) (fun z => by omega)
  refine sy_mark (tg := sp_tg nc ups br ln op cl nn fd ylv1 ymd1) C M I U F W (fun m k hm' hk => ⟨hil2 _ (hidx m k hm' hk), fun t e => by have := (sb_tgs C M F W (hidx m k hm' hk) e).1; omega⟩) (fun ynd2 ymd2 ynh2 ylv2 Y1 => ?_)
  dsimp only
  obtain ⟨r1, _, r3, r4⟩ := sm_XRe X1 Y1
  subst r1; subst r3
  refine sy_renumber h10 U X3 (fun ynu hnu => ?_)
  dsimp only
  refine sy_families C M (fun yfa R' hfa HR' => ?_)
  dsimp only
  rw [r4] at HR'
  have hfa2 : ∀ m, m < nm → yfa m = nI (R m) := fun m hm' => by rw [hfa m hm', sf_uniq X5 HR' hm']
  refine sy_rename (R := R) (nam := nam) C M U hfa2 (by rw [r4]; exact X5) (by rw [r4]; exact X6) (fun ynn hnn => ?_)
  dsimp only
  refine K ymd2 ynh2 yil ynu ynn yfa r4 hil2 hnu (fun m hm' hs => ?_)
  have h1 := X5.2.1 m hm'
  refine ⟨R m, by omega, hfa2 m hm', ?_⟩
  rw [hnn (R m) (by omega) (by rw [r4]; exact sf_st X5.2.2 hm' hs) (sf_idem X5 hm'), (X7 m hm' hs).1]
  rfl
end
theorem i_vc_build {k : Nat} {u : SX} {v : SY} (I : i_Rel k u v) (hk : k + 5 ≤ 2560) : wpX_build (fun r u' => wpY_build (fun r' v' => r' = r ∧ i_Rel (k + 5) u' v') v) u := by
  refine zz_el (P := fun u v => wpX_build (fun r u' => wpY_build (fun r' v' => r' = r ∧ i_Rel (k + 5) u' v') v) u) ?_ I
  intro nc nm nr np dp pa hm na ln op rk cl nn dc xnd xmd xnh xlv xq xs bl ft xdp sp xss xsm fc xfs ups br ic ii xdc xfd rc rn xqu xwt xsi xtg xnw xfa xsg xnn xtk xrl bop bcl bin bsk bme bli bou xnf xfm xfl xfh ou xem xel ynd ymd ynh ylv yen yow yma fs sc yil ynu ynn yfa yvm yvl yvh F0 F1 F2 F3 F4 F5 F6 F7
  obtain ⟨fd, hfd⟩ := sp_fdx (hm := hm) (dc := dc) F0
  unfold wpX_build
  dsimp only
  refine sx_check F0 F1 F2 hfd F4 (fun m i xfd A hb => ?_) (fun xfd A hok => ?_)
  · dsimp only
    have h4 := sp_wr3 nc fc br op cl nn fd (6 * m + i)
    refine br_f (nI_ne0 (Nat.pos_of_ne_zero hb.2.2.1) (by omega)) ?_
    unfold wpY_build
    dsimp only
    refine sy_examine F0 F1 F2 hfd (fun m' i' hb' => ?_) (fun hok => absurd (hok m i hb.1 hb.2.1) hb.2.2.1)
    obtain ⟨e1, e2⟩ := sp_badU (fun m hm' => (F1.2.1 m hm').2.2.1) hb hb'
    rw [← e1, ← e2]
    exact br_f (nI_ne0 (Nat.pos_of_ne_zero hb.2.2.1) (by omega)) ⟨rfl, zz_in F0 F1 F2 F3 F4 F5 F6 (Or.inl rfl)⟩
  · dsimp only
    refine br_t rfl (sx_chain F0 F1 F2 F3 hfd hok A (fun nd0 md0 nh0 lv0 xnd xmd xnh xlv xq xs xqu xwt xsi xtg xnw xfa xsg xnn xtk xrl bop bcl bin bsk bme bli bou xnf nw R nam N nf X => ?_))
    unfold wpY_build
    dsimp only
    refine sy_examine F0 F1 F2 hfd (fun m' i' hb' => absurd (hok m' i' hb'.1 hb'.2.1) hb'.2.2.1) (fun _ => ?_)
    dsimp only
    refine br_t rfl (sy_chain F0 F1 F2 F3 hfd hok X (fun ymd ynh yil ynu ynn yfa e3 t1 t2 t3 => ⟨rfl, zz_in F0 F1 F2 F3 F4 F5 F6 (Or.inr ⟨rfl, rfl, rfl, e3, ?_⟩)⟩))
    obtain ⟨X0, X1, X2, X3, X4, X5, X6, X7, X8, X9, X10, X11, X12⟩ := X
    obtain ⟨s1, s2, s3, s4, s5, s6⟩ := sb_sets F0 F1 hfd hok X1
    have h10 := F0.1
    refine ⟨fd, sp_tg nc ups br ln op cl nn fd lv0 md0, nw, N, nf, hfd, hok, A, s1, s2, s3, fun m i hm' hlv hi => ?_, fun j hj => ⟨X2 j hj, t1 j hj, fun t e => sb_tgs F0 F1 hfd hok hj e⟩, fun c hc => ⟨X4 c hc, t2 c hc, sp_numN X3 hc, fun j e => ?_⟩, fun c d j hc hd e1 e2 => sp_numI X3 hc hd e1 e2, fun m hm' hs => ⟨(X7 m hm' hs).2.1, (X7 m hm' hs).2.2, t3 m hm' hs⟩, X9, X10, X11, X12⟩
    · obtain ⟨p1, p2, p3⟩ := s6 m i hm' hlv hi
      refine ⟨p1, p2, fun o3 ht g hg => ⟨p3 o3 ht g hg, ?_⟩⟩
      have hl := p3 o3 ht g hg
      obtain ⟨g1, g2⟩ := s3 g hl
      have hcl := sp_okc hok hm' hi (by omega) (by omega)
      have hgm := s2 g g1
      have hf0 : fc (hm g) = 0 := Classical.byContradiction (fun z => (F1.2.1 g hgm).2.2.2.2 z g2)
      exact sw_static F0 F1 hfd X9 X8 (fun m _ hs => s4 m hs) s5 (fun m hm' hs => (X7 m hm' hs).2.1) hf0 g1 _ hcl (p1 (by omega) (by omega) (fun _ => ht)) hg
    · have := sp_numB h10 nc (Nat.le_refl _) X3 c j hc e
      omega
end
section
/-! runs: the steps of both -/
section
variable {nc nm nr : Nat} {pa : Nat → Option Nat} {hm na ln op rk cl nn : Nat → Nat} {fc ups br ic ii fs sc rc rn : Nat → Int32} {dc fd : Nat → Nat → Option Nat}
variable {xnd xmd xnh xlv xq xs xbt xft xdp xst xss xpt xtr xsm : Int32} {xfs xdc xfd xqu xwt xsi xtg xnw xfa xsg xnn xtk xrl bop bcl bin bsk bme bli bou xnf xfm xfl xfh xou xem xel : Nat → Int32}
variable {ypl ynd ymd ynh ylv ybt ydp yst yot yen : Int32} {yow yma yil ynu ynn yfa yvm yvl yvh ypu : Nat → Int32}
variable {d s np : Nat} {ou : Nat → Int32}
/-! the component -/
theorem sx_goPop {post : Int32 → SX → Prop} {e m l B : Nat} (h8 : e < 8) (hm' : m < 30) (h1 : xfm e = nI m) (h2 : xfl e = nI l) (hl : l < 128) (hB : B < 128) (hsm : xsm = 0 ∧ ln m = B ∨ ¬ xsm = 0 ∧ xrl m = nI B) (hge : B ≤ l) (p0 : e = 0 → post 0 ((nI nc), (nI nm), (nI nr), xnd, xmd, xnh, xlv, xq, xs, xbt, xft, (nI 0), (nI s), xss, (nI np), xtr, xsm, fc, (oF pa), xfs, ups, (nF hm), (nF na), br, (nF ln), (nF op), ic, ii, xdc, xfd, (nF rk), rc, rn, xqu, xwt, xsi, xtg, xnw, xfa, xsg, xnn, xtk, xrl, bop, bcl, bin, bsk, bme, bli, bou, xnf, xfm, xfl, xfh, ou, xem, xel))
    (p1 : ∀ f l', e = f + 1 → xfl f = nI l' → l' < 127 → post (-1) ((nI nc), (nI nm), (nI nr), xnd, xmd, xnh, xlv, xq, xs, xbt, xft, (nI e), (nI s), xss, (nI np), xtr, xsm, fc, (oF pa), xfs, ups, (nF hm), (nF na), br, (nF ln), (nF op), ic, ii, xdc, xfd, (nF rk), rc, rn, xqu, xwt, xsi, xtg, xnw, xfa, xsg, xnn, xtk, xrl, bop, bcl, bin, bsk, bme, bli, bou, xnf, xfm, (upd xfl f (nI (l' + 1))), xfh, ou, xem, xel)) (hl' : ∀ f, e = f + 1 → ∃ l', xfl f = nI l' ∧ l' < 127) : wpX_go post ((nI nc), (nI nm), (nI nr), xnd, xmd, xnh, xlv, xq, xs, xbt, xft, (nI (e + 1)), (nI s), xss, (nI np), xtr, xsm, fc, (oF pa), xfs, ups, (nF hm), (nF na), br, (nF ln), (nF op), ic, ii, xdc, xfd, (nF rk), rc, rn, xqu, xwt, xsi, xtg, xnw, xfa, xsg, xnn, xtk, xrl, bop, bcl, bin, bsk, bme, bli, bou, xnf, xfm, xfl, xfh, ou, xem, xel) := by
  have hv : vp_in (nI e) 8 := vp_in_nI h8 (by decide)
  have hvm : vp_in (nI m) 30 := vp_in_nI hm' (by decide)
  have h44 : ∀ z, z = nI B → wX_go_44 post (nI e) (nI m) (nI l) z (nI l) (nI nc) (nI nm) (nI nr) xnd xmd xnh xlv xq xs xbt xft (nI (e + 1)) (nI s) xss (nI np) xtr xsm fc (oF pa) xfs ups (nF hm) (nF na) br (nF ln) (nF op) ic ii xdc xfd (nF rk) rc rn xqu xwt xsi xtg xnw xfa xsg xnn xtk xrl bop bcl bin bsk bme bli bou xnf xfm xfl xfh ou xem xel := by
    intro z ez
    unfold wX_go_44
    rw [ez, nI_pred]
    refine pk_lt l B (fun h => by omega) (fun _ => nm_e ?_)
    refine pk_eq e 0 (fun z => ?_) (fun z => ?_)
    · rw [z]; exact p0 z
    · obtain ⟨f, rfl⟩ : ∃ f, e = f + 1 := ⟨e - 1, by omega⟩
      obtain ⟨l', q1, q2⟩ := hl' f rfl
      have hvf : vp_in (nI f) 8 := vp_in_nI (by omega) (by decide)
      rw [nI_pred, nI_clamp (n := f) (by omega), q1, nI_1, sd_vbb (by omega)]
      exact ⟨hvf, hvf, nm_e (p1 f l' rfl q1 q2)⟩
  unfold wpX_go
  dsimp only
  rw [nI_pred]
  refine nm_e ⟨hv, ?_⟩
  rw [nI_clamp (n := e) (by omega)]
  refine nm_r h1 ⟨hv, nm_r h2 ?_⟩
  rw [nI_clamp (n := m) (by omega), nF_a]
  rcases hsm with ⟨a, b⟩ | ⟨a, b⟩
  · exact br_t a ⟨hvm, h44 _ (by rw [b])⟩
  · exact br_f a ⟨hvm, h44 _ b⟩
theorem sx_goStep {post : Int32 → SX → Prop} {e m l B : Nat} (h8 : e < 8) (hm' : m < 30) (h1 : xfm e = nI m) (h2 : xfl e = nI l) (hl : l < 128) (hB : B < 128) (hs : s ≤ 200) (hsm : xsm = 0 ∧ ln m = B ∨ ¬ xsm = 0 ∧ xrl m = nI B) (hlt : l < B) (pL : s = 200 → post 5 ((nI nc), (nI nm), (nI nr), xnd, xmd, xnh, xlv, xq, xs, xbt, xft, (nI (e + 1)), (nI s), xss, (nI np), xtr, xsm, fc, (oF pa), xfs, ups, (nF hm), (nF na), br, (nF ln), (nF op), ic, ii, xdc, xfd, (nF rk), rc, rn, xqu, xwt, xsi, xtg, xnw, xfa, xsg, xnn, xtk, xrl, bop, bcl, bin, bsk, bme, bli, bou, xnf, xfm, xfl, xfh, ou, xem, xel))
    (pO : s < 200 → xsm = 0 → wpX_stepOld post ((nI nc), (nI nm), (nI nr), xnd, xmd, xnh, xlv, xq, xs, xbt, xft, (nI (e + 1)), (nI (s + 1)), xss, (nI np), xtr, xsm, fc, (oF pa), xfs, ups, (nF hm), (nF na), br, (nF ln), (nF op), ic, ii, xdc, xfd, (nF rk), rc, rn, xqu, xwt, xsi, xtg, xnw, xfa, xsg, xnn, xtk, xrl, bop, bcl, bin, bsk, bme, bli, bou, xnf, xfm, xfl, xfh, ou, xem, xel) (nI e) (nI (6 * m + l))) (pN : s < 200 → ¬ xsm = 0 → wpX_stepAnew post ((nI nc), (nI nm), (nI nr), xnd, xmd, xnh, xlv, xq, xs, xbt, xft, (nI (e + 1)), (nI (s + 1)), xss, (nI np), xtr, xsm, fc, (oF pa), xfs, ups, (nF hm), (nF na), br, (nF ln), (nF op), ic, ii, xdc, xfd, (nF rk), rc, rn, xqu, xwt, xsi, xtg, xnw, xfa, xsg, xnn, xtk, xrl, bop, bcl, bin, bsk, bme, bli, bou, xnf, xfm, xfl, xfh, ou, xem, xel) (nI e) (nI (24 * m + l))) : wpX_go post ((nI nc), (nI nm), (nI nr), xnd, xmd, xnh, xlv, xq, xs, xbt, xft, (nI (e + 1)), (nI s), xss, (nI np), xtr, xsm, fc, (oF pa), xfs, ups, (nF hm), (nF na), br, (nF ln), (nF op), ic, ii, xdc, xfd, (nF rk), rc, rn, xqu, xwt, xsi, xtg, xnw, xfa, xsg, xnn, xtk, xrl, bop, bcl, bin, bsk, bme, bli, bou, xnf, xfm, xfl, xfh, ou, xem, xel) := by
  have hv : vp_in (nI e) 8 := vp_in_nI h8 (by decide)
  have hvm : vp_in (nI m) 30 := vp_in_nI hm' (by decide)
  have h44 : ∀ z, z = nI B → wX_go_44 post (nI e) (nI m) (nI l) z (nI l) (nI nc) (nI nm) (nI nr) xnd xmd xnh xlv xq xs xbt xft (nI (e + 1)) (nI s) xss (nI np) xtr xsm fc (oF pa) xfs ups (nF hm) (nF na) br (nF ln) (nF op) ic ii xdc xfd (nF rk) rc rn xqu xwt xsi xtg xnw xfa xsg xnn xtk xrl bop bcl bin bsk bme bli bou xnf xfm xfl xfh ou xem xel := by
    intro z ez
    unfold wX_go_44
    rw [ez, nI_1, sd_x6, nI_add, sd_x24, nI_add]
    refine pk_lt l B (fun _ => pk_eq s 200 (fun h => pL h) (fun h => nm_e ?_)) (fun h => by omega)
    exact br_c (fun z => pO (by omega) z) (fun z => pN (by omega) z)
  unfold wpX_go
  dsimp only
  rw [nI_pred]
  refine nm_e ⟨hv, ?_⟩
  rw [nI_clamp (n := e) (by omega)]
  refine nm_r h1 ⟨hv, nm_r h2 ?_⟩
  rw [nI_clamp (n := m) (by omega), nF_a]
  rcases hsm with ⟨a, b⟩ | ⟨a, b⟩
  · exact br_t a ⟨hvm, h44 _ (by rw [b])⟩
  · exact br_f a ⟨hvm, h44 _ b⟩
/-- what is held is of a class or one below it -/
def rn_bel (ups : Nat → Int32) (h : Option Nat) (c : Nat) : Bool := match h with
  | none => false
  | some x => bt (ups x) c
theorem sx_isBelow {h : Option Nat} {c : Nat} {A B : Prop} (hh : ∀ x, h = some x → x < 10) (hc : c < 32) (f : rn_bel ups h c = false → A) (g : rn_bel ups h c = true → B) : wpX_isBelow (fun r => (r = 0 → A) ∧ (¬ r = 0 → B)) ((nI nc), (nI nm), (nI nr), xnd, xmd, xnh, xlv, xq, xs, xbt, xft, xdp, xst, xss, xpt, xtr, xsm, fc, (oF pa), xfs, ups, (nF hm), (nF na), br, (nF ln), (nF op), ic, ii, xdc, xfd, (nF rk), rc, rn, xqu, xwt, xsi, xtg, xnw, xfa, xsg, xnn, xtk, xrl, bop, bcl, bin, bsk, bme, bli, bou, xnf, xfm, xfl, xfh, xou, xem, xel) (oI h) (nI c) := by
  unfold wpX_isBelow
  dsimp only
  cases h with
  | none => exact br_t (by decide) (br_t rfl (f rfl))
  | some x =>
    have := hh x rfl
    rw [oI_s, nI_clamp (n := x) (by omega)]
    exact br_f (nI_pos (by omega)) ⟨vp_in_nI this (by decide), xh_b hc (fun hb => br_t rfl (f hb)) (fun hb => br_f (by decide) (g hb))⟩
theorem sx_invoke {post : SX → Prop} {m : Nat} {h : Option Nat} (h8 : d < 8) (hm' : m < 30) (hh : ∀ x, h = some x → x < 10) (p : post ((nI nc), (nI nm), (nI nr), xnd, xmd, xnh, xlv, xq, xs, xbt, xft, (nI (d + 1)), (nI s), xss, (nI np), xtr, xsm, fc, (oF pa), xfs, ups, (nF hm), (nF na), br, (nF ln), (nF op), ic, ii, xdc, xfd, (nF rk), rc, rn, xqu, xwt, xsi, xtg, xnw, xfa, xsg, xnn, xtk, xrl, bop, bcl, bin, bsk, bme, bli, bou, xnf, (upd xfm d (nI m)), (upd xfl d (nI 0)), (upd xfh d (oI h)), ou, xem, xel)) : wpX_invoke post ((nI nc), (nI nm), (nI nr), xnd, xmd, xnh, xlv, xq, xs, xbt, xft, (nI d), (nI s), xss, (nI np), xtr, xsm, fc, (oF pa), xfs, ups, (nF hm), (nF na), br, (nF ln), (nF op), ic, ii, xdc, xfd, (nF rk), rc, rn, xqu, xwt, xsi, xtg, xnw, xfa, xsg, xnn, xtk, xrl, bop, bcl, bin, bsk, bme, bli, bou, xnf, xfm, xfl, xfh, ou, xem, xel) (nI m) (oI h) := by
  have hv : vp_in (nI d) 8 := vp_in_nI h8 (by decide)
  have h0 : vp_nar .byte (0 : Int32) = nI 0 := sd_vb (m := 0) (by decide)
  unfold wpX_invoke
  dsimp only
  rw [nI_clamp (n := d) (by omega), sd_vbb (m := m) (by omega), sd_voo (fun x e => by have := hh x e; omega), h0, nI_1]
  exact ⟨hv, nm_e ⟨hv, nm_e (nm_e ⟨hv, nm_e p⟩)⟩⟩
/-- a method that is to be entered, if it can be -/
def rn_go (br : Nat → Int32) (o : Option Nat) : Option Nat := match o with
  | none => none
  | some g => if br g = 0 then some g else none
theorem sx_enter {post : Int32 → SX → Prop} {o h : Option Nat} (hd : d ≤ 8) (ho : ∀ g, o = some g → g < 30) (hh : ∀ x, h = some x → x < 10) (p3 : rn_go br o = none → post 3 ((nI nc), (nI nm), (nI nr), xnd, xmd, xnh, xlv, xq, xs, xbt, xft, (nI d), (nI s), xss, (nI np), xtr, xsm, fc, (oF pa), xfs, ups, (nF hm), (nF na), br, (nF ln), (nF op), ic, ii, xdc, xfd, (nF rk), rc, rn, xqu, xwt, xsi, xtg, xnw, xfa, xsg, xnn, xtk, xrl, bop, bcl, bin, bsk, bme, bli, bou, xnf, xfm, xfl, xfh, ou, xem, xel)) (p4 : ∀ g, rn_go br o = some g → d = 8 → post 4 ((nI nc), (nI nm), (nI nr), xnd, xmd, xnh, xlv, xq, xs, xbt, xft, (nI d), (nI s), xss, (nI np), xtr, xsm, fc, (oF pa), xfs, ups, (nF hm), (nF na), br, (nF ln), (nF op), ic, ii, xdc, xfd, (nF rk), rc, rn, xqu, xwt, xsi, xtg, xnw, xfa, xsg, xnn, xtk, xrl, bop, bcl, bin, bsk, bme, bli, bou, xnf, xfm, xfl, xfh, ou, xem, xel))
    (p : ∀ g, rn_go br o = some g → d < 8 → post (-1) ((nI nc), (nI nm), (nI nr), xnd, xmd, xnh, xlv, xq, xs, xbt, xft, (nI (d + 1)), (nI s), xss, (nI np), xtr, xsm, fc, (oF pa), xfs, ups, (nF hm), (nF na), br, (nF ln), (nF op), ic, ii, xdc, xfd, (nF rk), rc, rn, xqu, xwt, xsi, xtg, xnw, xfa, xsg, xnn, xtk, xrl, bop, bcl, bin, bsk, bme, bli, bou, xnf, (upd xfm d (nI g)), (upd xfl d (nI 0)), (upd xfh d (oI h)), ou, xem, xel)) : wpX_enter post ((nI nc), (nI nm), (nI nr), xnd, xmd, xnh, xlv, xq, xs, xbt, xft, (nI d), (nI s), xss, (nI np), xtr, xsm, fc, (oF pa), xfs, ups, (nF hm), (nF na), br, (nF ln), (nF op), ic, ii, xdc, xfd, (nF rk), rc, rn, xqu, xwt, xsi, xtg, xnw, xfa, xsg, xnn, xtk, xrl, bop, bcl, bin, bsk, bme, bli, bou, xnf, xfm, xfl, xfh, ou, xem, xel) (oI o) (oI h) := by
  unfold wpX_enter
  dsimp only
  cases o with
  | none => exact br_t (by decide) (p3 rfl)
  | some g =>
    have hg := ho g rfl
    rw [oI_s, nI_clamp (n := g) (by omega)]
    refine br_f (nI_pos (by omega)) ⟨vp_in_nI hg (by decide), br_c (fun hb => ?_) (fun hb => p3 ?_)⟩
    · have e : rn_go br (some g) = some g := if_pos hb
      exact pk_eq d 8 (fun h8 => p4 g e h8) (fun h8 => sx_invoke (by omega) hg hh (p g e (by omega)))
    · exact if_neg hb
theorem sx_plain40 {post : Int32 → SX → Prop} {e l : Nat} (h8 : e < 8) (hl : l < 126) (h2 : xfl e = nI l) (p : post (-1) ((nI nc), (nI nm), (nI nr), xnd, xmd, xnh, xlv, xq, xs, xbt, xft, (nI d), (nI s), xss, (nI np), xtr, xsm, fc, (oF pa), xfs, ups, (nF hm), (nF na), br, (nF ln), (nF op), ic, ii, xdc, xfd, (nF rk), rc, rn, xqu, xwt, xsi, xtg, xnw, xfa, xsg, xnn, xtk, xrl, bop, bcl, bin, bsk, bme, bli, bou, xnf, xfm, (upd xfl e (nI (l + 1))), xfh, ou, xem, xel)) : wX_plain_40 post (nI e) (nI nc) (nI nm) (nI nr) xnd xmd xnh xlv xq xs xbt xft (nI d) (nI s) xss (nI np) xtr xsm fc (oF pa) xfs ups (nF hm) (nF na) br (nF ln) (nF op) ic ii xdc xfd (nF rk) rc rn xqu xwt xsi xtg xnw xfa xsg xnn xtk xrl bop bcl bin bsk bme bli bou xnf xfm xfl xfh ou xem xel := by
  have hv : vp_in (nI e) 8 := vp_in_nI h8 (by decide)
  unfold wX_plain_40
  rw [nI_clamp (n := e) (by omega), h2, nI_1, sd_vbb (by omega)]
  exact ⟨hv, hv, nm_e p⟩
theorem sx_plain {post : Int32 → SX → Prop} {e l o : Nat} {cx v : Int32} (h8 : e < 8) (hl : l < 126) (h2 : xfl e = nI l) (ho : o < 7) (hnp : np < 200) (pF : o = 5 → post 1 ((nI nc), (nI nm), (nI nr), xnd, xmd, xnh, xlv, xq, xs, xbt, xft, (nI d), (nI s), xss, (nI np), xtr, xsm, fc, (oF pa), xfs, ups, (nF hm), (nF na), br, (nF ln), (nF op), ic, ii, xdc, xfd, (nF rk), rc, rn, xqu, xwt, xsi, xtg, xnw, xfa, xsg, xnn, xtk, xrl, bop, bcl, bin, bsk, bme, bli, bou, xnf, xfm, xfl, xfh, ou, xem, xel)) (pO : o = 0 → post (-1) ((nI nc), (nI nm), (nI nr), xnd, xmd, xnh, xlv, xq, xs, xbt, xft, (nI d), (nI s), xss, (nI (np + 1)), xtr, xsm, fc, (oF pa), xfs, ups, (nF hm), (nF na), br, (nF ln), (nF op), ic, ii, xdc, xfd, (nF rk), rc, rn, xqu, xwt, xsi, xtg, xnw, xfa, xsg, xnn, xtk, xrl, bop, bcl, bin, bsk, bme, bli, bou, xnf, xfm, (upd xfl e (nI (l + 1))), xfh, (upd ou np v), xem, xel))
    (pN : o ≠ 5 → o ≠ 0 → ∃ c : Option Nat, cx = oI c ∧ (∀ x, c = some x → x < 10) ∧ post (-1) ((nI nc), (nI nm), (nI nr), xnd, xmd, xnh, xlv, xq, xs, xbt, xft, (nI d), (nI s), xss, (nI np), xtr, xsm, fc, (oF pa), xfs, ups, (nF hm), (nF na), br, (nF ln), (nF op), ic, ii, xdc, xfd, (nF rk), rc, rn, xqu, xwt, xsi, xtg, xnw, xfa, xsg, xnn, xtk, xrl, bop, bcl, bin, bsk, bme, bli, bou, xnf, xfm, (upd xfl e (nI (l + 1))), (upd xfh e (oI c)), ou, xem, xel)) : wpX_plain post ((nI nc), (nI nm), (nI nr), xnd, xmd, xnh, xlv, xq, xs, xbt, xft, (nI d), (nI s), xss, (nI np), xtr, xsm, fc, (oF pa), xfs, ups, (nF hm), (nF na), br, (nF ln), (nF op), ic, ii, xdc, xfd, (nF rk), rc, rn, xqu, xwt, xsi, xtg, xnw, xfa, xsg, xnn, xtk, xrl, bop, bcl, bin, bsk, bme, bli, bou, xnf, xfm, xfl, xfh, ou, xem, xel) (nI e) (nI o) cx v := by
  have hv : vp_in (nI e) 8 := vp_in_nI h8 (by decide)
  unfold wpX_plain
  dsimp only
  refine pk_eq o 5 (fun o5 => pF o5) (fun o5 => pk_eq o 0 (fun o0 => ?_) (fun o0 => ?_))
  · rw [nI_1, nI_clamp (n := np) (by omega)]
    exact nm_e ⟨vp_in_nI hnp (by decide), nm_e (sx_plain40 h8 hl h2 (pO o0))⟩
  · obtain ⟨c, c1, c2, c3⟩ := pN o5 o0
    rw [c1, nI_clamp (n := e) (by omega), sd_voo (fun x y => by have := c2 x y; omega)]
    exact ⟨hv, nm_e (sx_plain40 h8 hl h2 c3)⟩
/-! the reference -/
theorem sy_goPop {post : SY → Prop} {p0 : Int32} {e m l : Nat} (h8 : e < 8) (hm' : m < 30) (h1 : yvm e = nI m) (h2 : yvl e = nI l) (hl : l < 128) (hln : ln m < 128) (hge : ln m ≤ l) (p00 : e = 0 → post ((nI nc), (nI nm), (nI nr), ypl, ynd, ymd, ynh, ylv, ybt, (nI 0), (nI s), (nI np), yen, fc, br, (oF pa), ups, yow, yma, (nF hm), (nF na), (nF ln), (nF op), fs, sc, (nF rk), rc, rn, yil, ynu, ynn, yfa, yvm, yvl, yvh, ou)) (p1 : ∀ f l', e = f + 1 → yvl f = nI l' → l' < 127 → post ((nI nc), (nI nm), (nI nr), ypl, ynd, ymd, ynh, ylv, ybt, (nI e), (nI s), (nI np), yen, fc, br, (oF pa), ups, yow, yma, (nF hm), (nF na), (nF ln), (nF op), fs, sc, (nF rk), rc, rn, yil, ynu, ynn, yfa, yvm, (upd yvl f (nI (l' + 1))), yvh, ou)) (hl' : ∀ f, e = f + 1 → ∃ l', yvl f = nI l' ∧ l' < 127) : wpY_goOn post ((nI nc), (nI nm), (nI nr), ypl, ynd, ymd, ynh, ylv, ybt, (nI (e + 1)), (nI s), (nI np), yen, fc, br, (oF pa), ups, yow, yma, (nF hm), (nF na), (nF ln), (nF op), fs, sc, (nF rk), rc, rn, yil, ynu, ynn, yfa, yvm, yvl, yvh, ou) p0 := by
  have hv : vp_in (nI e) 8 := vp_in_nI h8 (by decide)
  unfold wpY_goOn
  dsimp only
  rw [nI_pred]
  refine nm_e (br_f (nI_ne0 (by omega) (by omega)) ⟨hv, hv, ?_⟩)
  rw [nI_clamp (n := e) (by omega), h1, h2, nI_clamp (n := m) (by omega), nF_a]
  refine ⟨vp_in_nI hm' (by decide), pk_lt l (ln m) (fun z => by omega) (fun _ => nm_e (pk_le e 0 (fun z => ?_) (fun z => ?_)))⟩
  · have : e = 0 := by omega
    rw [this]; exact p00 this
  · obtain ⟨f, rfl⟩ : ∃ f, e = f + 1 := ⟨e - 1, by omega⟩
    obtain ⟨l', q1, q2⟩ := hl' f rfl
    have hvf : vp_in (nI f) 8 := vp_in_nI (by omega) (by decide)
    rw [nI_pred, nI_clamp (n := f) (by omega), q1, nI_1]
    exact ⟨hvf, hvf, nm_e (p1 f l' rfl q1 q2)⟩
theorem sy_goStep {post : SY → Prop} {p0 : Int32} {e m l : Nat} (h8 : e < 8) (hm' : m < 30) (h1 : yvm e = nI m) (h2 : yvl e = nI l) (hl : l < 128) (hln : ln m < 128) (hs : s ≤ 200) (hlt : l < ln m) (pL : s = 200 → post ((nI nc), (nI nm), (nI nr), ypl, ynd, ymd, ynh, ylv, ybt, (nI (e + 1)), (nI s), (nI np), 5, fc, br, (oF pa), ups, yow, yma, (nF hm), (nF na), (nF ln), (nF op), fs, sc, (nF rk), rc, rn, yil, ynu, ynn, yfa, yvm, yvl, yvh, ou)) (pS : s < 200 → wpY_step post ((nI nc), (nI nm), (nI nr), ypl, ynd, ymd, ynh, ylv, ybt, (nI (e + 1)), (nI (s + 1)), (nI np), yen, fc, br, (oF pa), ups, yow, yma, (nF hm), (nF na), (nF ln), (nF op), fs, sc, (nF rk), rc, rn, yil, ynu, ynn, yfa, yvm, yvl, yvh, ou) p0 (nI e) (nI (6 * m + l))) : wpY_goOn post ((nI nc), (nI nm), (nI nr), ypl, ynd, ymd, ynh, ylv, ybt, (nI (e + 1)), (nI s), (nI np), yen, fc, br, (oF pa), ups, yow, yma, (nF hm), (nF na), (nF ln), (nF op), fs, sc, (nF rk), rc, rn, yil, ynu, ynn, yfa, yvm, yvl, yvh, ou) p0 := by
  have hv : vp_in (nI e) 8 := vp_in_nI h8 (by decide)
  unfold wpY_goOn
  dsimp only
  rw [nI_pred]
  refine nm_e (br_f (nI_ne0 (by omega) (by omega)) ⟨hv, hv, ?_⟩)
  rw [nI_clamp (n := e) (by omega), h1, h2, nI_clamp (n := m) (by omega), nF_a, sd_x6, nI_add, nI_1]
  exact ⟨vp_in_nI hm' (by decide), pk_lt l (ln m) (fun _ => pk_eq s 200 (fun h => pL h) (fun h => nm_e ⟨hv, hv, pS (by omega)⟩)) (fun z => by omega)⟩
theorem sy_step {post : SY → Prop} {p0 : Int32} {e i l : Nat} {h : Option Nat} (h8 : e < 8) (hi : i < 180) (I : sp_in1 (op i) (cl i) (nn i) (ic i) (ii i) (fs i) (sc i)) (h2 : yvl e = nI l) (hl : l < 126) (h3 : yvh e = oI h) (hh : ∀ x, h = some x → x < 10) (hnp : np < 200)
    (pO : op i = 0 → post ((nI nc), (nI nm), (nI nr), ypl, ynd, ymd, ynh, ylv, ybt, (nI d), (nI s), (nI (np + 1)), yen, fc, br, (oF pa), ups, yow, yma, (nF hm), (nF na), (nF ln), (nF op), fs, sc, (nF rk), rc, rn, yil, ynu, ynn, yfa, yvm, (upd yvl e (nI (l + 1))), yvh, (upd ou np (sc i)))) (pN : op i = 1 → post ((nI nc), (nI nm), (nI nr), ypl, ynd, ymd, ynh, ylv, ybt, (nI d), (nI s), (nI np), yen, fc, br, (oF pa), ups, yow, yma, (nF hm), (nF na), (nF ln), (nF op), fs, sc, (nF rk), rc, rn, yil, ynu, ynn, yfa, yvm, (upd yvl e (nI (l + 1))), (upd yvh e (nI (cl i))), ou)) (pM : op i = 2 → rn_bel ups h (cl i) = false → post ((nI nc), (nI nm), (nI nr), ypl, ynd, ymd, ynh, ylv, ybt, (nI d), (nI s), (nI np), 2, fc, br, (oF pa), ups, yow, yma, (nF hm), (nF na), (nF ln), (nF op), fs, sc, (nF rk), rc, rn, yil, ynu, ynn, yfa, yvm, yvl, yvh, ou))
    (pC : op i = 2 → rn_bel ups h (cl i) = true → wpY_call post ((nI nc), (nI nm), (nI nr), ypl, ynd, ymd, ynh, ylv, ybt, (nI d), (nI s), (nI np), yen, fc, br, (oF pa), ups, yow, yma, (nF hm), (nF na), (nF ln), (nF op), fs, sc, (nF rk), rc, rn, yil, ynu, ynn, yfa, yvm, yvl, yvh, ou) p0 (nI i) (oI h)) (pS : op i = 3 → wpY_call post ((nI nc), (nI nm), (nI nr), ypl, ynd, ymd, ynh, ylv, ybt, (nI d), (nI s), (nI np), yen, fc, br, (oF pa), ups, yow, yma, (nF hm), (nF na), (nF ln), (nF op), fs, sc, (nF rk), rc, rn, yil, ynu, ynn, yfa, yvm, yvl, yvh, ou) p0 (nI i) (-1)) (pT : op i = 4 → post ((nI nc), (nI nm), (nI nr), ypl, ynd, ymd, ynh, ylv, ybt, (nI d), (nI s), (nI np), yen, fc, br, (oF pa), ups, yow, yma, (nF hm), (nF na), (nF ln), (nF op), fs, sc, (nF rk), rc, rn, yil, ynu, ynn, yfa, yvm, (upd yvl e (nI (l + if rn_bel ups h (cl i) = true then 1 else 2))), yvh, ou)) (pF : op i = 5 → post ((nI nc), (nI nm), (nI nr), ypl, ynd, ymd, ynh, ylv, ybt, (nI d), (nI s), (nI np), 1, fc, br, (oF pa), ups, yow, yma, (nF hm), (nF na), (nF ln), (nF op), fs, sc, (nF rk), rc, rn, yil, ynu, ynn, yfa, yvm, yvl, yvh, ou)) : wpY_step post ((nI nc), (nI nm), (nI nr), ypl, ynd, ymd, ynh, ylv, ybt, (nI d), (nI s), (nI np), yen, fc, br, (oF pa), ups, yow, yma, (nF hm), (nF na), (nF ln), (nF op), fs, sc, (nF rk), rc, rn, yil, ynu, ynn, yfa, yvm, yvl, yvh, ou) p0 (nI e) (nI i) := by
  obtain ⟨n1, n2, n3, n4, n5, n6⟩ := I
  have hv : vp_in (nI e) 8 := vp_in_nI h8 (by decide)
  have hvi : vp_in (nI i) 180 := vp_in_nI hi (by decide)
  have h60 : ∀ z : Nat, z < 2 → (op i ≠ 0 → op i ≠ 5 → (z = 1 ↔ rn_bel ups h (cl i) = true)) → wY_step_60 post p0 (nI e) (nI i) (fs i) (oI h) (nI z) (nI nc) (nI nm) (nI nr) ypl ynd ymd ynh ylv ybt (nI d) (nI s) (nI np) yen fc br (oF pa) ups yow yma (nF hm) (nF na) (nF ln) (nF op) fs sc (nF rk) rc rn yil ynu ynn yfa yvm yvl yvh ou := by
    intro z hz hzb
    unfold wY_step_60
    rw [nI_clamp (n := i) (by omega), nI_clamp (n := e) (by omega), h2, nI_1 l, sd_2a, nI_1 np, nI_clamp (n := np) (by omega)]
    refine ⟨hvi, nm_r (nF_a op i) (br_f (nI_pos (by omega)) (pk_lt 4 (op i) (fun o5 => pF (by omega)) (fun o5 => pk_eq (op i) 0 (fun o0 => ?_) (fun o0 => pk_eq (op i) 1 (fun o1 => ?_) (fun o1 => pk_eq (op i) 2 (fun o2 => ?_) (fun o2 => pk_eq (op i) 3 (fun o3 => pS o3) (fun o3 => pk_eq (op i) 4 (fun o4 => ⟨hv, ?_⟩) (fun o4 => by omega))))))))⟩
    · exact nm_e ⟨hvi, vp_in_nI hnp (by decide), nm_e ⟨hv, hv, nm_e (pO o0)⟩⟩
    · have := (n4 (by omega) (by omega)).2.1
      rw [this]
      exact ⟨hv, nm_e ⟨hv, hv, nm_e (pN o1)⟩⟩
    · have hb := hzb (by omega) (by omega)
      refine pk_eq z 0 (fun z0 => pM o2 (b_nf (fun y => by have := hb.mpr y; omega))) (fun z0 => pC o2 (hb.mp (by omega)))
    · have hb := hzb (by omega) (by omega)
      have hp := pT o4
      refine pk_eq z 0 (fun z0 => ⟨hv, nm_e ?_⟩) (fun z0 => ⟨hv, nm_e ?_⟩)
      · rw [if_neg (fun y => by have := hb.mpr y; omega)] at hp; exact hp
      · rw [if_pos (hb.mp (by omega))] at hp; exact hp
  unfold wpY_step
  dsimp only
  rw [nI_clamp (n := i) (by omega), nI_clamp (n := e) (by omega), h3, nF_a]
  refine ⟨hvi, nm_e ⟨hv, nm_e ?_⟩⟩
  cases h with
  | none => exact br_t (by decide) (h60 0 (by omega) (fun _ _ => ⟨fun y => by omega, fun y => by cases y⟩))
  | some x =>
    have hx := hh x rfl
    refine br_f (nI_pos (by omega)) ⟨hvi, pk_eq (op i) 0 (fun o0 => h60 0 (by omega) (fun y => absurd o0 y)) (fun o0 => ⟨hvi, pk_eq (op i) 5 (fun o5 => h60 0 (by omega) (fun _ y => absurd o5 y)) (fun o5 => ?_)⟩)⟩
    obtain ⟨c1, c2, c3⟩ := n4 o0 o5
    rw [oI_s, nI_clamp (n := x) (by omega), c2]
    rw [c2, oI_s] at h60
    exact ⟨vp_in_nI hx (by decide), yh_b (by omega) (fun hb => h60 0 (by omega) (fun _ _ => ⟨fun y => by omega, fun y => by rw [show rn_bel ups (some x) (cl i) = bt (ups x) (cl i) from rfl, hb] at y; cases y⟩)) (fun hb => h60 1 (by omega) (fun _ _ => ⟨fun _ => hb, fun _ => rfl⟩))⟩
theorem sy_begin {post : SY → Prop} {g : Nat} {h : Option Nat} (hd : d ≤ 8) (p4 : d = 8 → post ((nI nc), (nI nm), (nI nr), ypl, ynd, ymd, ynh, ylv, ybt, (nI d), (nI s), (nI np), 4, fc, br, (oF pa), ups, yow, yma, (nF hm), (nF na), (nF ln), (nF op), fs, sc, (nF rk), rc, rn, yil, ynu, ynn, yfa, yvm, yvl, yvh, ou)) (p : d < 8 → post ((nI nc), (nI nm), (nI nr), ypl, ynd, ymd, ynh, ylv, ybt, (nI (d + 1)), (nI s), (nI np), yen, fc, br, (oF pa), ups, yow, yma, (nF hm), (nF na), (nF ln), (nF op), fs, sc, (nF rk), rc, rn, yil, ynu, ynn, yfa, (upd yvm d (nI g)), (upd yvl d (nI 0)), (upd yvh d (oI h)), ou)) : wpY_begin post ((nI nc), (nI nm), (nI nr), ypl, ynd, ymd, ynh, ylv, ybt, (nI d), (nI s), (nI np), yen, fc, br, (oF pa), ups, yow, yma, (nF hm), (nF na), (nF ln), (nF op), fs, sc, (nF rk), rc, rn, yil, ynu, ynn, yfa, yvm, yvl, yvh, ou) (nI g) (oI h) := by
  unfold wpY_begin
  dsimp only
  refine pk_eq d 8 (fun h8 => p4 h8) (fun h8 => ?_)
  have hv : vp_in (nI d) 8 := vp_in_nI (by omega) (by decide)
  rw [nI_clamp (n := d) (by omega), nI_1]
  exact ⟨hv, nm_e ⟨hv, nm_e ⟨hv, nm_e (nm_e (p (by omega)))⟩⟩⟩
theorem sy_call87 {post : SY → Prop} {e : Nat} {o h : Option Nat} (hd : e < 8) (h3 : yvh e = oI h) (ho : ∀ g, o = some g → g < 30) (p3 : o = none → post ((nI nc), (nI nm), (nI nr), ypl, ynd, ymd, ynh, ylv, ybt, (nI (e + 1)), (nI s), (nI np), 3, fc, br, (oF pa), ups, yow, yma, (nF hm), (nF na), (nF ln), (nF op), fs, sc, (nF rk), rc, rn, yil, ynu, ynn, yfa, yvm, yvl, yvh, ou)) (p4 : ∀ g, o = some g → e + 1 = 8 → post ((nI nc), (nI nm), (nI nr), ypl, ynd, ymd, ynh, ylv, ybt, (nI (e + 1)), (nI s), (nI np), 4, fc, br, (oF pa), ups, yow, yma, (nF hm), (nF na), (nF ln), (nF op), fs, sc, (nF rk), rc, rn, yil, ynu, ynn, yfa, yvm, yvl, yvh, ou))
    (p : ∀ g, o = some g → e + 1 < 8 → post ((nI nc), (nI nm), (nI nr), ypl, ynd, ymd, ynh, ylv, ybt, (nI (e + 2)), (nI s), (nI np), yen, fc, br, (oF pa), ups, yow, yma, (nF hm), (nF na), (nF ln), (nF op), fs, sc, (nF rk), rc, rn, yil, ynu, ynn, yfa, (upd yvm (e + 1) (nI g)), (upd yvl (e + 1) (nI 0)), (upd yvh (e + 1) (oI h)), ou)) : wY_call_87 post (oI o) (nI nc) (nI nm) (nI nr) ypl ynd ymd ynh ylv ybt (nI (e + 1)) (nI s) (nI np) yen fc br (oF pa) ups yow yma (nF hm) (nF na) (nF ln) (nF op) fs sc (nF rk) rc rn yil ynu ynn yfa yvm yvl yvh ou := by
  unfold wY_call_87
  rw [nI_pred, nI_clamp (n := e) (by omega), h3]
  cases o with
  | none => exact br_f (by decide) (p3 rfl)
  | some g =>
    have hg := ho g rfl
    exact br_t (nI_pos' (by omega)) ⟨vp_in_nI hd (by decide), sy_begin (by omega) (fun h8 => p4 g rfl h8) (fun h8 => p g rfl h8)⟩
end
end
section
/-! runs: where a run ended; the program as it was -/
/-- the frames from the innermost on, those above j already noted -/
def rn_em (x : Nat → Int32) (M : Nat → Nat) (D j : Nat) : Nat → Int32 := fun k => if k < D - j then nI (M (D - 1 - k)) else x k
theorem rn_em_u (x : Nat → Int32) (M : Nat → Nat) {D j : Nat} (h : j < D) : upd (rn_em x M D (j + 1)) (D - (j + 1)) (nI (M j)) = rn_em x M D j := by
  funext k
  unfold rn_em
  by_cases z : k = D - (j + 1)
  · rw [z, pk_us, if_pos (by omega)]
    congr 2
    omega
  · rw [pk_un z]
    by_cases y : k < D - (j + 1)
    · rw [if_pos y, if_pos (by omega)]
    · rw [if_neg y, if_neg (by omega)]
theorem rn_em_0 (x : Nat → Int32) (M : Nat → Nat) (D : Nat) : rn_em x M D D = x := by
  funext k
  unfold rn_em
  rw [if_neg (by omega)]
/-- one outcome for both -/
def rn_out (E : Int32 → SX → SY → Prop) (WX : (Int32 → SX → Prop) → Prop) (WY : (Int32 → SY → Prop) → Prop) : Prop := ∃ r u v, E r u v ∧ (∀ p : Int32 → SX → Prop, p r u → WX p) ∧ (∀ p : Int32 → SY → Prop, p r v → WY p)
section
variable {nc nm nr : Nat} {pa : Nat → Option Nat} {hm na ln op rk cl nn : Nat → Nat} {fc ups br ic ii fs sc rc rn : Nat → Int32} {dc fd : Nat → Nat → Option Nat}
variable {xnd xmd xnh xlv xq xs xbt xft xdp xst xss xpt xtr xsm : Int32} {xfs xdc xfd xqu xwt xsi xtg xnw xfa xsg xnn xtk xrl bop bcl bin bsk bme bli bou xnf xfm xfl xfh xou xem xel : Nat → Int32}
variable {ypl ynd ymd ynh ylv ybt ydp yst yot yen : Int32} {yow yma yil ynu ynn yfa yvm yvl yvh ypu : Nat → Int32}
variable {d s np : Nat} {ou : Nat → Int32} {M L : Nat → Nat} {H : Nat → Option Nat}
theorem sx_trail {post : SX → Prop} {t m l : Nat} (ht : t < 9) (hm' : m < 128) (hl : l < 128) (p : post ((nI nc), (nI nm), (nI nr), xnd, xmd, xnh, xlv, xq, xs, xbt, xft, (nI d), (nI s), xss, (nI np), (nI (t + 1)), xsm, fc, (oF pa), xfs, ups, (nF hm), (nF na), br, (nF ln), (nF op), ic, ii, xdc, xfd, (nF rk), rc, rn, xqu, xwt, xsi, xtg, xnw, xfa, xsg, xnn, xtk, xrl, bop, bcl, bin, bsk, bme, bli, bou, xnf, xfm, xfl, xfh, ou, (upd xem t (nI m)), (upd xel t (nI l)))) : wpX_trail post ((nI nc), (nI nm), (nI nr), xnd, xmd, xnh, xlv, xq, xs, xbt, xft, (nI d), (nI s), xss, (nI np), (nI t), xsm, fc, (oF pa), xfs, ups, (nF hm), (nF na), br, (nF ln), (nF op), ic, ii, xdc, xfd, (nF rk), rc, rn, xqu, xwt, xsi, xtg, xnw, xfa, xsg, xnn, xtk, xrl, bop, bcl, bin, bsk, bme, bli, bou, xnf, xfm, xfl, xfh, ou, xem, xel) (nI m) (nI l) := by
  have hv : vp_in (nI t) 9 := vp_in_nI ht (by decide)
  unfold wpX_trail
  dsimp only
  rw [nI_clamp (n := t) (by omega), sd_vbb hm', sd_vbb hl, nI_1]
  exact ⟨hv, nm_e (nm_e ⟨hv, nm_e p⟩)⟩
theorem sx_note12O {post : SX → Prop} {D : Nat} (hD : D ≤ 8) (hsm : xsm = 0) (hF : ∀ j, j < D → xfm j = nI (M j) ∧ xfl j = nI (L j) ∧ M j < 30 ∧ L j < 24) {em0 el0 : Nat → Int32}
    (K : post ((nI nc), (nI nm), (nI nr), xnd, xmd, xnh, xlv, xq, xs, xbt, xft, (nI d), (nI s), xss, (nI np), (nI D), xsm, fc, (oF pa), xfs, ups, (nF hm), (nF na), br, (nF ln), (nF op), ic, ii, xdc, xfd, (nF rk), rc, rn, xqu, xwt, xsi, xtg, xnw, xfa, xsg, xnn, xtk, xrl, bop, bcl, bin, bsk, bme, bli, bou, xnf, xfm, xfl, xfh, ou, (rn_em em0 M D 0), (rn_em el0 L D 0))) :
    ∀ fuel j, j ≤ D → j < fuel → wX_note_12 post fuel (nI j + (-1)) (nI nc) (nI nm) (nI nr) xnd xmd xnh xlv xq xs xbt xft (nI d) (nI s) xss (nI np) (nI (D - j)) xsm fc (oF pa) xfs ups (nF hm) (nF na) br (nF ln) (nF op) ic ii xdc xfd (nF rk) rc rn xqu xwt xsi xtg xnw xfa xsg xnn xtk xrl bop bcl bin bsk bme bli bou xnf xfm xfl xfh ou (rn_em em0 M D j) (rn_em el0 L D j) := by
  intro fuel
  induction fuel with
  | zero => intro j _ h; omega
  | succ f ih =>
    intro j hj hf
    rw [wX_note_12]
    cases j with
    | zero => exact br_t (by decide) K
    | succ j =>
      obtain ⟨f1, f2, f3, f4⟩ := hF j (by omega)
      have hv : vp_in (nI j) 8 := vp_in_nI (by omega) (by decide)
      dsimp only
      rw [pk_m1, nI_clamp (n := j) (by omega), f1, f2]
      refine br_f (nI_pos (by omega)) ⟨hv, nm_e ⟨hv, nm_e (br_t hsm ⟨hv, sx_trail (by omega) (by omega) (by omega) ?_⟩)⟩⟩
      have e1 : D - (j + 1) + 1 = D - j := by omega
      rw [rn_em_u em0 M (by omega), rn_em_u el0 L (by omega), e1]
      exact nm_e (ih j (by omega) (by omega))
theorem sx_noteO {post : SX → Prop} (hd : d ≤ 8) (hsm : xsm = 0) (hF : ∀ j, j < d → xfm j = nI (M j) ∧ xfl j = nI (L j) ∧ M j < 30 ∧ L j < 24)
    (K : post ((nI nc), (nI nm), (nI nr), xnd, xmd, xnh, xlv, xq, xs, xbt, xft, (nI d), (nI s), xss, (nI np), (nI d), xsm, fc, (oF pa), xfs, ups, (nF hm), (nF na), br, (nF ln), (nF op), ic, ii, xdc, xfd, (nF rk), rc, rn, xqu, xwt, xsi, xtg, xnw, xfa, xsg, xnn, xtk, xrl, bop, bcl, bin, bsk, bme, bli, bou, xnf, xfm, xfl, xfh, ou, (rn_em xem M d 0), (rn_em xel L d 0))) : wpX_note post ((nI nc), (nI nm), (nI nr), xnd, xmd, xnh, xlv, xq, xs, xbt, xft, (nI d), (nI s), xss, (nI np), xtr, xsm, fc, (oF pa), xfs, ups, (nF hm), (nF na), br, (nF ln), (nF op), ic, ii, xdc, xfd, (nF rk), rc, rn, xqu, xwt, xsi, xtg, xnw, xfa, xsg, xnn, xtk, xrl, bop, bcl, bin, bsk, bme, bli, bou, xnf, xfm, xfl, xfh, ou, xem, xel) := by
  have e : nI d - 1 = nI d + (-1) := by
    cases d with
    | zero => decide
    | succ d => rw [nI_pred, pk_m1]
  have key := sx_note12O (em0 := xem) (el0 := xel) hd hsm hF K (d + 1) d (Nat.le_refl _) (by omega)
  rw [rn_em_0, rn_em_0, Nat.sub_self] at key
  unfold wpX_note
  dsimp only
  rw [e]
  exact nm_e ⟨d + 1, key⟩
/-- what a call enters, in the program as it was -/
def rn_cO (op cl nn : Nat → Nat) (fd : Nat → Nat → Option Nat) (br : Nat → Int32) (h : Option Nat) (i : Nat) : Option Nat :=
  if op i = 3 then rn_go br (fd (cl i) (nn i)) else match h with
  | none => none
  | some x => rn_go br (fd x (nn i))
theorem sx_stepOld {post : Int32 → SX → Prop} {e i l : Nat} {h : Option Nat} (C : sp_cls nc fc pa ups) (MM : sp_mth nc nm fc hm na ln br dc) (F : sp_fd nc pa fc ups hm dc fd) (A : ∀ a b, a < nc → b < 10 → xfd (10 * a + b) = oI (fd a b)) (h8 : e < 8) (hi : i < 180) (I : sp_in1 (op i) (cl i) (nn i) (ic i) (ii i) (fs i) (sc i)) (hcl : op i ≠ 0 → op i ≠ 5 → cl i < nc) (hd : d ≤ 8) (h2 : xfl e = nI l) (hl : l < 120) (h3 : xfh e = oI h) (hh : ∀ x, h = some x → x < nc) (hnp : np < 200)
    (pO : op i = 0 → post (-1) ((nI nc), (nI nm), (nI nr), xnd, xmd, xnh, xlv, xq, xs, xbt, xft, (nI d), (nI s), xss, (nI (np + 1)), xtr, xsm, fc, (oF pa), xfs, ups, (nF hm), (nF na), br, (nF ln), (nF op), ic, ii, xdc, xfd, (nF rk), rc, rn, xqu, xwt, xsi, xtg, xnw, xfa, xsg, xnn, xtk, xrl, bop, bcl, bin, bsk, bme, bli, bou, xnf, xfm, (upd xfl e (nI (l + 1))), xfh, (upd ou np (sc i)), xem, xel)) (pN : op i = 1 → post (-1) ((nI nc), (nI nm), (nI nr), xnd, xmd, xnh, xlv, xq, xs, xbt, xft, (nI d), (nI s), xss, (nI np), xtr, xsm, fc, (oF pa), xfs, ups, (nF hm), (nF na), br, (nF ln), (nF op), ic, ii, xdc, xfd, (nF rk), rc, rn, xqu, xwt, xsi, xtg, xnw, xfa, xsg, xnn, xtk, xrl, bop, bcl, bin, bsk, bme, bli, bou, xnf, xfm, (upd xfl e (nI (l + 1))), (upd xfh e (nI (cl i))), ou, xem, xel)) (pM : op i = 2 → rn_bel ups h (cl i) = false → post 2 ((nI nc), (nI nm), (nI nr), xnd, xmd, xnh, xlv, xq, xs, xbt, xft, (nI d), (nI s), xss, (nI np), xtr, xsm, fc, (oF pa), xfs, ups, (nF hm), (nF na), br, (nF ln), (nF op), ic, ii, xdc, xfd, (nF rk), rc, rn, xqu, xwt, xsi, xtg, xnw, xfa, xsg, xnn, xtk, xrl, bop, bcl, bin, bsk, bme, bli, bou, xnf, xfm, xfl, xfh, ou, xem, xel))
    (p3 : (op i = 2 ∧ rn_bel ups h (cl i) = true ∨ op i = 3) → rn_cO op cl nn fd br h i = none → post 3 ((nI nc), (nI nm), (nI nr), xnd, xmd, xnh, xlv, xq, xs, xbt, xft, (nI d), (nI s), xss, (nI np), xtr, xsm, fc, (oF pa), xfs, ups, (nF hm), (nF na), br, (nF ln), (nF op), ic, ii, xdc, xfd, (nF rk), rc, rn, xqu, xwt, xsi, xtg, xnw, xfa, xsg, xnn, xtk, xrl, bop, bcl, bin, bsk, bme, bli, bou, xnf, xfm, xfl, xfh, ou, xem, xel)) (p4 : (op i = 2 ∧ rn_bel ups h (cl i) = true ∨ op i = 3) → ∀ g, rn_cO op cl nn fd br h i = some g → d = 8 → post 4 ((nI nc), (nI nm), (nI nr), xnd, xmd, xnh, xlv, xq, xs, xbt, xft, (nI d), (nI s), xss, (nI np), xtr, xsm, fc, (oF pa), xfs, ups, (nF hm), (nF na), br, (nF ln), (nF op), ic, ii, xdc, xfd, (nF rk), rc, rn, xqu, xwt, xsi, xtg, xnw, xfa, xsg, xnn, xtk, xrl, bop, bcl, bin, bsk, bme, bli, bou, xnf, xfm, xfl, xfh, ou, xem, xel))
    (p : (op i = 2 ∧ rn_bel ups h (cl i) = true ∨ op i = 3) → ∀ g, rn_cO op cl nn fd br h i = some g → d < 8 → post (-1) ((nI nc), (nI nm), (nI nr), xnd, xmd, xnh, xlv, xq, xs, xbt, xft, (nI (d + 1)), (nI s), xss, (nI np), xtr, xsm, fc, (oF pa), xfs, ups, (nF hm), (nF na), br, (nF ln), (nF op), ic, ii, xdc, xfd, (nF rk), rc, rn, xqu, xwt, xsi, xtg, xnw, xfa, xsg, xnn, xtk, xrl, bop, bcl, bin, bsk, bme, bli, bou, xnf, (upd xfm d (nI g)), (upd xfl d (nI 0)), (upd xfh d (oI h)), ou, xem, xel))
    (pT : op i = 4 → post (-1) ((nI nc), (nI nm), (nI nr), xnd, xmd, xnh, xlv, xq, xs, xbt, xft, (nI d), (nI s), xss, (nI np), xtr, xsm, fc, (oF pa), xfs, ups, (nF hm), (nF na), br, (nF ln), (nF op), ic, ii, xdc, xfd, (nF rk), rc, rn, xqu, xwt, xsi, xtg, xnw, xfa, xsg, xnn, xtk, xrl, bop, bcl, bin, bsk, bme, bli, bou, xnf, xfm, (upd xfl e (nI (l + if rn_bel ups h (cl i) = true then 1 else 2))), xfh, ou, xem, xel)) (pF : op i = 5 → post 1 ((nI nc), (nI nm), (nI nr), xnd, xmd, xnh, xlv, xq, xs, xbt, xft, (nI d), (nI s), xss, (nI np), xtr, xsm, fc, (oF pa), xfs, ups, (nF hm), (nF na), br, (nF ln), (nF op), ic, ii, xdc, xfd, (nF rk), rc, rn, xqu, xwt, xsi, xtg, xnw, xfa, xsg, xnn, xtk, xrl, bop, bcl, bin, bsk, bme, bli, bou, xnf, xfm, xfl, xfh, ou, xem, xel)) : wpX_stepOld post ((nI nc), (nI nm), (nI nr), xnd, xmd, xnh, xlv, xq, xs, xbt, xft, (nI d), (nI s), xss, (nI np), xtr, xsm, fc, (oF pa), xfs, ups, (nF hm), (nF na), br, (nF ln), (nF op), ic, ii, xdc, xfd, (nF rk), rc, rn, xqu, xwt, xsi, xtg, xnw, xfa, xsg, xnn, xtk, xrl, bop, bcl, bin, bsk, bme, bli, bou, xnf, xfm, xfl, xfh, ou, xem, xel) (nI e) (nI i) := by
  have h10 := C.1
  have h30 := MM.1
  obtain ⟨n1, n2, n3, n4, n5, n6⟩ := I
  have hv : vp_in (nI e) 8 := vp_in_nI h8 (by decide)
  have hvi : vp_in (nI i) 180 := vp_in_nI hi (by decide)
  have hh10 : ∀ x, h = some x → x < 10 := fun x ex => by have := hh x ex; omega
  have hpl : op i = 0 ∨ op i = 1 ∨ op i = 5 → wpX_plain post ((nI nc), (nI nm), (nI nr), xnd, xmd, xnh, xlv, xq, xs, xbt, xft, (nI d), (nI s), xss, (nI np), xtr, xsm, fc, (oF pa), xfs, ups, (nF hm), (nF na), br, (nF ln), (nF op), ic, ii, xdc, xfd, (nF rk), rc, rn, xqu, xwt, xsi, xtg, xnw, xfa, xsg, xnn, xtk, xrl, bop, bcl, bin, bsk, bme, bli, bou, xnf, xfm, xfl, xfh, ou, xem, xel) (nI e) (nI (op i)) (ic i) (ii i) := by
    intro o015
    refine sx_plain h8 (by omega) h2 (by omega) hnp pF (fun o0 => ?_) (fun o5 o0 => ?_)
    · have := pO o0
      rw [← (n2 o0).2] at this; exact this
    · obtain ⟨c1, c2, c3⟩ := n4 o0 o5
      exact ⟨some (cl i), c1, fun x ex => by cases ex; exact c3, pN (by omega)⟩
  unfold wpX_stepOld
  dsimp only
  rw [nI_clamp (n := i) (by omega), nI_clamp (n := e) (by omega), h3, nF_a]
  refine ⟨hvi, nm_e ⟨hv, nm_e ⟨hvi, nm_e (pk_lt (op i) 2 (fun o => ⟨hvi, hvi, hpl (by omega)⟩) (fun o => pk_lt 4 (op i) (fun o' => ⟨hvi, hvi, hpl (by omega)⟩) (fun o' => ?_)))⟩⟩⟩
  obtain ⟨c1, c2, c3⟩ := n4 (by omega) (by omega)
  have hc := hcl (by omega) (by omega)
  rw [c1]
  refine pk_eq (op i) 2 (fun o2 => sx_isBelow hh10 (by omega) (fun hb => pM o2 hb) (fun hb => ⟨hvi, ?_⟩)) (fun o2 => pk_eq (op i) 3 (fun o3 => ⟨hvi, ?_⟩) (fun o3 => pk_eq (op i) 4 (fun o4 => ⟨hv, sx_isBelow hh10 (by omega) (fun hb => ⟨hv, ?_⟩) (fun hb => ⟨hv, ?_⟩)⟩) (fun o4 => trivial)))
  · obtain ⟨f1, f2, f3⟩ := n5 (Or.inl o2)
    cases h with
    | none => cases hb
    | some x =>
      have hx := hh x rfl
      have ec : rn_cO op cl nn fd br (some x) i = rn_go br (fd x (nn i)) := by unfold rn_cO; rw [if_neg (by omega)]
      rw [oI_s, f1, sd_x10, nI_add, nI_clamp (n := 10 * x + nn i) (by omega), A x (nn i) hx f3]
      refine ⟨vp_in_nI (by omega) (by decide), ?_⟩
      exact sx_enter (h := some x) hd (fun g eg => by have := (sp_sound C MM F x _ g hx eg).1; omega) hh10 (fun en => p3 (Or.inl ⟨o2, hb⟩) (ec.trans en)) (fun g eg h8 => p4 (Or.inl ⟨o2, hb⟩) g (ec.trans eg) h8) (fun g eg h8 => p (Or.inl ⟨o2, hb⟩) g (ec.trans eg) h8)
  · obtain ⟨f1, f2, f3⟩ := n5 (Or.inr o3)
    have ec : rn_cO op cl nn fd br h i = rn_go br (fd (cl i) (nn i)) := by unfold rn_cO; rw [if_pos o3]
    rw [f1, sd_x10, nI_add, nI_clamp (n := 10 * cl i + nn i) (by omega), A (cl i) (nn i) hc f3]
    refine ⟨vp_in_nI (by omega) (by decide), ?_⟩
    exact sx_enter hd (fun g eg => by have := (sp_sound C MM F (cl i) _ g hc eg).1; omega) hh10 (fun en => p3 (Or.inr o3) (ec.trans en)) (fun g eg h8 => p4 (Or.inr o3) g (ec.trans eg) h8) (fun g eg h8 => p (Or.inr o3) g (ec.trans eg) h8)
  · have hp := pT o4
    rw [if_neg (by rw [hb]; decide)] at hp
    rw [h2, sd_2a, sd_vbb (by omega)]
    exact nm_e hp
  · have hp := pT o4
    rw [if_pos hb] at hp
    rw [h2, nI_1, sd_vbb (by omega)]
    exact nm_e hp
theorem sy_callO {post : SY → Prop} {e i c : Nat} {h : Option Nat} {hx : Int32} (C : sp_cls nc fc pa ups) (MM : sp_mth nc nm fc hm na ln br dc) (F : sp_fd nc pa fc ups hm dc fd) (h8 : e < 8) (hi : i < 180) (hc : c < nc) (hn : nn i < 10) (hsc : sc i = nI (nn i)) (hcx : hx = nI c ∨ hx = -1 ∧ fs i = nI c) (h3 : yvh e = oI h)
    (p3 : rn_go br (fd c (nn i)) = none → post ((nI nc), (nI nm), (nI nr), ypl, ynd, ymd, ynh, ylv, ybt, (nI (e + 1)), (nI s), (nI np), 3, fc, br, (oF pa), ups, yow, yma, (nF hm), (nF na), (nF ln), (nF op), fs, sc, (nF rk), rc, rn, yil, ynu, ynn, yfa, yvm, yvl, yvh, ou)) (p4 : ∀ g, rn_go br (fd c (nn i)) = some g → e + 1 = 8 → post ((nI nc), (nI nm), (nI nr), ypl, ynd, ymd, ynh, ylv, ybt, (nI (e + 1)), (nI s), (nI np), 4, fc, br, (oF pa), ups, yow, yma, (nF hm), (nF na), (nF ln), (nF op), fs, sc, (nF rk), rc, rn, yil, ynu, ynn, yfa, yvm, yvl, yvh, ou))
    (p : ∀ g, rn_go br (fd c (nn i)) = some g → e + 1 < 8 → post ((nI nc), (nI nm), (nI nr), ypl, ynd, ymd, ynh, ylv, ybt, (nI (e + 2)), (nI s), (nI np), yen, fc, br, (oF pa), ups, yow, yma, (nF hm), (nF na), (nF ln), (nF op), fs, sc, (nF rk), rc, rn, yil, ynu, ynn, yfa, (upd yvm (e + 1) (nI g)), (upd yvl (e + 1) (nI 0)), (upd yvh (e + 1) (oI h)), ou)) : wpY_call post ((nI nc), (nI nm), (nI nr), ypl, ynd, ymd, ynh, ylv, ybt, (nI (e + 1)), (nI s), (nI np), yen, fc, br, (oF pa), ups, yow, yma, (nF hm), (nF na), (nF ln), (nF op), fs, sc, (nF rk), rc, rn, yil, ynu, ynn, yfa, yvm, yvl, yvh, ou) 0 (nI i) hx := by
  have h10 := C.1
  have h30 := MM.1
  have hvi : vp_in (nI i) 180 := vp_in_nI hi (by decide)
  have hg : ∀ g, rn_go br (fd c (nn i)) = some g → g < 30 := by
    intro g eg
    unfold rn_go at eg
    cases ef : fd c (nn i) with
    | none => rw [ef] at eg; cases eg
    | some x =>
      rw [ef] at eg
      dsimp only at eg
      have := (sp_sound C MM F c _ x hc ef).1
      split at eg
      · cases eg; omega
      · cases eg
  have h14 : wY_call_14 post 0 (nI i) (nI c) (nI nc) (nI nm) (nI nr) ypl ynd ymd ynh ylv ybt (nI (e + 1)) (nI s) (nI np) yen fc br (oF pa) ups yow yma (nF hm) (nF na) (nF ln) (nF op) fs sc (nF rk) rc rn yil ynu ynn yfa yvm yvl yvh ou := by
    unfold wY_call_14 wY_call_30
    rw [nI_clamp (n := i) (by omega), hsc]
    refine br_t rfl ⟨hvi, nm_e (br_t rfl ?_)⟩
    unfold wY_call_71
    refine br_f (by decide) ?_
    unfold wpY_found
    dsimp only
    refine br_t rfl (sy_finds C MM F hc hn ?_)
    unfold wY_found_19
    have h87 : ∀ o, rn_go br (fd c (nn i)) = o → wY_call_87 post (oI o) (nI nc) (nI nm) (nI nr) ypl ynd ymd ynh ylv ybt (nI (e + 1)) (nI s) (nI np) yen fc br (oF pa) ups yow yma (nF hm) (nF na) (nF ln) (nF op) fs sc (nF rk) rc rn yil ynu ynn yfa yvm yvl yvh ou := fun o eo =>
      sy_call87 h8 h3 (fun g eg => hg g (eo.trans eg)) (fun en => p3 (eo.trans en)) (fun g eg h8 => p4 g (eo.trans eg) h8) (fun g eg h8 => p g (eo.trans eg) h8)
    cases ef : fd c (nn i) with
    | none =>
      rw [ef] at h87
      exact br_t (by decide) (h87 none rfl)
    | some x =>
      rw [ef] at h87
      have hxm := (sp_sound C MM F c _ x hc ef).1
      rw [oI_s, nI_clamp (n := x) (by omega)]
      exact br_f (nI_pos (by omega)) (br_t rfl ⟨vp_in_nI (by omega) (by decide), br_c (fun hb => h87 (some x) (if_pos hb)) (fun hb => h87 none (if_neg hb))⟩)
  unfold wpY_call
  dsimp only
  rw [nI_clamp (n := i) (by omega)]
  rcases hcx with e1 | ⟨e1, e2⟩
  · rw [e1]; exact br_t (nI_pos' (by omega)) h14
  · rw [e1, e2]; exact br_f (by decide) ⟨hvi, h14⟩
end
end
section
/-! runs: the program as it was, in lockstep -/
def rn_X (p : Int32 → SX → Prop) (n : Nat) (r : Int32) (u : SX) : Prop := wX_run_144 p n r u.1 u.2.1 u.2.2.1 u.2.2.2.1 u.2.2.2.2.1 u.2.2.2.2.2.1 u.2.2.2.2.2.2.1 u.2.2.2.2.2.2.2.1 u.2.2.2.2.2.2.2.2.1 u.2.2.2.2.2.2.2.2.2.1 u.2.2.2.2.2.2.2.2.2.2.1 u.2.2.2.2.2.2.2.2.2.2.2.1 u.2.2.2.2.2.2.2.2.2.2.2.2.1 u.2.2.2.2.2.2.2.2.2.2.2.2.2.1 u.2.2.2.2.2.2.2.2.2.2.2.2.2.2.1 u.2.2.2.2.2.2.2.2.2.2.2.2.2.2.2.1 u.2.2.2.2.2.2.2.2.2.2.2.2.2.2.2.2.1 u.2.2.2.2.2.2.2.2.2.2.2.2.2.2.2.2.2.1 u.2.2.2.2.2.2.2.2.2.2.2.2.2.2.2.2.2.2.1 u.2.2.2.2.2.2.2.2.2.2.2.2.2.2.2.2.2.2.2.1 u.2.2.2.2.2.2.2.2.2.2.2.2.2.2.2.2.2.2.2.2.1 u.2.2.2.2.2.2.2.2.2.2.2.2.2.2.2.2.2.2.2.2.2.1 u.2.2.2.2.2.2.2.2.2.2.2.2.2.2.2.2.2.2.2.2.2.2.1 u.2.2.2.2.2.2.2.2.2.2.2.2.2.2.2.2.2.2.2.2.2.2.2.1 u.2.2.2.2.2.2.2.2.2.2.2.2.2.2.2.2.2.2.2.2.2.2.2.2.1 u.2.2.2.2.2.2.2.2.2.2.2.2.2.2.2.2.2.2.2.2.2.2.2.2.2.1 u.2.2.2.2.2.2.2.2.2.2.2.2.2.2.2.2.2.2.2.2.2.2.2.2.2.2.1 u.2.2.2.2.2.2.2.2.2.2.2.2.2.2.2.2.2.2.2.2.2.2.2.2.2.2.2.1 u.2.2.2.2.2.2.2.2.2.2.2.2.2.2.2.2.2.2.2.2.2.2.2.2.2.2.2.2.1 u.2.2.2.2.2.2.2.2.2.2.2.2.2.2.2.2.2.2.2.2.2.2.2.2.2.2.2.2.2.1 u.2.2.2.2.2.2.2.2.2.2.2.2.2.2.2.2.2.2.2.2.2.2.2.2.2.2.2.2.2.2.1 u.2.2.2.2.2.2.2.2.2.2.2.2.2.2.2.2.2.2.2.2.2.2.2.2.2.2.2.2.2.2.2.1 u.2.2.2.2.2.2.2.2.2.2.2.2.2.2.2.2.2.2.2.2.2.2.2.2.2.2.2.2.2.2.2.2.1 u.2.2.2.2.2.2.2.2.2.2.2.2.2.2.2.2.2.2.2.2.2.2.2.2.2.2.2.2.2.2.2.2.2.1 u.2.2.2.2.2.2.2.2.2.2.2.2.2.2.2.2.2.2.2.2.2.2.2.2.2.2.2.2.2.2.2.2.2.2.1 u.2.2.2.2.2.2.2.2.2.2.2.2.2.2.2.2.2.2.2.2.2.2.2.2.2.2.2.2.2.2.2.2.2.2.2.1 u.2.2.2.2.2.2.2.2.2.2.2.2.2.2.2.2.2.2.2.2.2.2.2.2.2.2.2.2.2.2.2.2.2.2.2.2.1 u.2.2.2.2.2.2.2.2.2.2.2.2.2.2.2.2.2.2.2.2.2.2.2.2.2.2.2.2.2.2.2.2.2.2.2.2.2.1 u.2.2.2.2.2.2.2.2.2.2.2.2.2.2.2.2.2.2.2.2.2.2.2.2.2.2.2.2.2.2.2.2.2.2.2.2.2.2.1 u.2.2.2.2.2.2.2.2.2.2.2.2.2.2.2.2.2.2.2.2.2.2.2.2.2.2.2.2.2.2.2.2.2.2.2.2.2.2.2.1 u.2.2.2.2.2.2.2.2.2.2.2.2.2.2.2.2.2.2.2.2.2.2.2.2.2.2.2.2.2.2.2.2.2.2.2.2.2.2.2.2.1 u.2.2.2.2.2.2.2.2.2.2.2.2.2.2.2.2.2.2.2.2.2.2.2.2.2.2.2.2.2.2.2.2.2.2.2.2.2.2.2.2.2.1 u.2.2.2.2.2.2.2.2.2.2.2.2.2.2.2.2.2.2.2.2.2.2.2.2.2.2.2.2.2.2.2.2.2.2.2.2.2.2.2.2.2.2.1 u.2.2.2.2.2.2.2.2.2.2.2.2.2.2.2.2.2.2.2.2.2.2.2.2.2.2.2.2.2.2.2.2.2.2.2.2.2.2.2.2.2.2.2.1 u.2.2.2.2.2.2.2.2.2.2.2.2.2.2.2.2.2.2.2.2.2.2.2.2.2.2.2.2.2.2.2.2.2.2.2.2.2.2.2.2.2.2.2.2.1 u.2.2.2.2.2.2.2.2.2.2.2.2.2.2.2.2.2.2.2.2.2.2.2.2.2.2.2.2.2.2.2.2.2.2.2.2.2.2.2.2.2.2.2.2.2.1 u.2.2.2.2.2.2.2.2.2.2.2.2.2.2.2.2.2.2.2.2.2.2.2.2.2.2.2.2.2.2.2.2.2.2.2.2.2.2.2.2.2.2.2.2.2.2.1 u.2.2.2.2.2.2.2.2.2.2.2.2.2.2.2.2.2.2.2.2.2.2.2.2.2.2.2.2.2.2.2.2.2.2.2.2.2.2.2.2.2.2.2.2.2.2.2.1 u.2.2.2.2.2.2.2.2.2.2.2.2.2.2.2.2.2.2.2.2.2.2.2.2.2.2.2.2.2.2.2.2.2.2.2.2.2.2.2.2.2.2.2.2.2.2.2.2.1 u.2.2.2.2.2.2.2.2.2.2.2.2.2.2.2.2.2.2.2.2.2.2.2.2.2.2.2.2.2.2.2.2.2.2.2.2.2.2.2.2.2.2.2.2.2.2.2.2.2.1 u.2.2.2.2.2.2.2.2.2.2.2.2.2.2.2.2.2.2.2.2.2.2.2.2.2.2.2.2.2.2.2.2.2.2.2.2.2.2.2.2.2.2.2.2.2.2.2.2.2.2.1 u.2.2.2.2.2.2.2.2.2.2.2.2.2.2.2.2.2.2.2.2.2.2.2.2.2.2.2.2.2.2.2.2.2.2.2.2.2.2.2.2.2.2.2.2.2.2.2.2.2.2.2.1 u.2.2.2.2.2.2.2.2.2.2.2.2.2.2.2.2.2.2.2.2.2.2.2.2.2.2.2.2.2.2.2.2.2.2.2.2.2.2.2.2.2.2.2.2.2.2.2.2.2.2.2.2.1 u.2.2.2.2.2.2.2.2.2.2.2.2.2.2.2.2.2.2.2.2.2.2.2.2.2.2.2.2.2.2.2.2.2.2.2.2.2.2.2.2.2.2.2.2.2.2.2.2.2.2.2.2.2.1 u.2.2.2.2.2.2.2.2.2.2.2.2.2.2.2.2.2.2.2.2.2.2.2.2.2.2.2.2.2.2.2.2.2.2.2.2.2.2.2.2.2.2.2.2.2.2.2.2.2.2.2.2.2.2.1 u.2.2.2.2.2.2.2.2.2.2.2.2.2.2.2.2.2.2.2.2.2.2.2.2.2.2.2.2.2.2.2.2.2.2.2.2.2.2.2.2.2.2.2.2.2.2.2.2.2.2.2.2.2.2.2.1 u.2.2.2.2.2.2.2.2.2.2.2.2.2.2.2.2.2.2.2.2.2.2.2.2.2.2.2.2.2.2.2.2.2.2.2.2.2.2.2.2.2.2.2.2.2.2.2.2.2.2.2.2.2.2.2.2
def rn_st (u : SX) (r : Int32) : SX := (u.1, u.2.1, u.2.2.1, u.2.2.2.1, u.2.2.2.2.1, u.2.2.2.2.2.1, u.2.2.2.2.2.2.1, u.2.2.2.2.2.2.2.1, u.2.2.2.2.2.2.2.2.1, u.2.2.2.2.2.2.2.2.2.1, u.2.2.2.2.2.2.2.2.2.2.1, u.2.2.2.2.2.2.2.2.2.2.2.1, u.2.2.2.2.2.2.2.2.2.2.2.2.1, r, u.2.2.2.2.2.2.2.2.2.2.2.2.2.2.1, u.2.2.2.2.2.2.2.2.2.2.2.2.2.2.2.1, u.2.2.2.2.2.2.2.2.2.2.2.2.2.2.2.2.1, u.2.2.2.2.2.2.2.2.2.2.2.2.2.2.2.2.2.1, u.2.2.2.2.2.2.2.2.2.2.2.2.2.2.2.2.2.2.1, u.2.2.2.2.2.2.2.2.2.2.2.2.2.2.2.2.2.2.2.1, u.2.2.2.2.2.2.2.2.2.2.2.2.2.2.2.2.2.2.2.2.1, u.2.2.2.2.2.2.2.2.2.2.2.2.2.2.2.2.2.2.2.2.2.1, u.2.2.2.2.2.2.2.2.2.2.2.2.2.2.2.2.2.2.2.2.2.2.1, u.2.2.2.2.2.2.2.2.2.2.2.2.2.2.2.2.2.2.2.2.2.2.2.1, u.2.2.2.2.2.2.2.2.2.2.2.2.2.2.2.2.2.2.2.2.2.2.2.2.1, u.2.2.2.2.2.2.2.2.2.2.2.2.2.2.2.2.2.2.2.2.2.2.2.2.2.1, u.2.2.2.2.2.2.2.2.2.2.2.2.2.2.2.2.2.2.2.2.2.2.2.2.2.2.1, u.2.2.2.2.2.2.2.2.2.2.2.2.2.2.2.2.2.2.2.2.2.2.2.2.2.2.2.1, u.2.2.2.2.2.2.2.2.2.2.2.2.2.2.2.2.2.2.2.2.2.2.2.2.2.2.2.2.1, u.2.2.2.2.2.2.2.2.2.2.2.2.2.2.2.2.2.2.2.2.2.2.2.2.2.2.2.2.2.1, u.2.2.2.2.2.2.2.2.2.2.2.2.2.2.2.2.2.2.2.2.2.2.2.2.2.2.2.2.2.2.1, u.2.2.2.2.2.2.2.2.2.2.2.2.2.2.2.2.2.2.2.2.2.2.2.2.2.2.2.2.2.2.2.1, u.2.2.2.2.2.2.2.2.2.2.2.2.2.2.2.2.2.2.2.2.2.2.2.2.2.2.2.2.2.2.2.2.1, u.2.2.2.2.2.2.2.2.2.2.2.2.2.2.2.2.2.2.2.2.2.2.2.2.2.2.2.2.2.2.2.2.2.1, u.2.2.2.2.2.2.2.2.2.2.2.2.2.2.2.2.2.2.2.2.2.2.2.2.2.2.2.2.2.2.2.2.2.2.1, u.2.2.2.2.2.2.2.2.2.2.2.2.2.2.2.2.2.2.2.2.2.2.2.2.2.2.2.2.2.2.2.2.2.2.2.1, u.2.2.2.2.2.2.2.2.2.2.2.2.2.2.2.2.2.2.2.2.2.2.2.2.2.2.2.2.2.2.2.2.2.2.2.2.1, u.2.2.2.2.2.2.2.2.2.2.2.2.2.2.2.2.2.2.2.2.2.2.2.2.2.2.2.2.2.2.2.2.2.2.2.2.2.1, u.2.2.2.2.2.2.2.2.2.2.2.2.2.2.2.2.2.2.2.2.2.2.2.2.2.2.2.2.2.2.2.2.2.2.2.2.2.2.1, u.2.2.2.2.2.2.2.2.2.2.2.2.2.2.2.2.2.2.2.2.2.2.2.2.2.2.2.2.2.2.2.2.2.2.2.2.2.2.2.1, u.2.2.2.2.2.2.2.2.2.2.2.2.2.2.2.2.2.2.2.2.2.2.2.2.2.2.2.2.2.2.2.2.2.2.2.2.2.2.2.2.1, u.2.2.2.2.2.2.2.2.2.2.2.2.2.2.2.2.2.2.2.2.2.2.2.2.2.2.2.2.2.2.2.2.2.2.2.2.2.2.2.2.2.1, u.2.2.2.2.2.2.2.2.2.2.2.2.2.2.2.2.2.2.2.2.2.2.2.2.2.2.2.2.2.2.2.2.2.2.2.2.2.2.2.2.2.2.1, u.2.2.2.2.2.2.2.2.2.2.2.2.2.2.2.2.2.2.2.2.2.2.2.2.2.2.2.2.2.2.2.2.2.2.2.2.2.2.2.2.2.2.2.1, u.2.2.2.2.2.2.2.2.2.2.2.2.2.2.2.2.2.2.2.2.2.2.2.2.2.2.2.2.2.2.2.2.2.2.2.2.2.2.2.2.2.2.2.2.1, u.2.2.2.2.2.2.2.2.2.2.2.2.2.2.2.2.2.2.2.2.2.2.2.2.2.2.2.2.2.2.2.2.2.2.2.2.2.2.2.2.2.2.2.2.2.1, u.2.2.2.2.2.2.2.2.2.2.2.2.2.2.2.2.2.2.2.2.2.2.2.2.2.2.2.2.2.2.2.2.2.2.2.2.2.2.2.2.2.2.2.2.2.2.1, u.2.2.2.2.2.2.2.2.2.2.2.2.2.2.2.2.2.2.2.2.2.2.2.2.2.2.2.2.2.2.2.2.2.2.2.2.2.2.2.2.2.2.2.2.2.2.2.1, u.2.2.2.2.2.2.2.2.2.2.2.2.2.2.2.2.2.2.2.2.2.2.2.2.2.2.2.2.2.2.2.2.2.2.2.2.2.2.2.2.2.2.2.2.2.2.2.2.1, u.2.2.2.2.2.2.2.2.2.2.2.2.2.2.2.2.2.2.2.2.2.2.2.2.2.2.2.2.2.2.2.2.2.2.2.2.2.2.2.2.2.2.2.2.2.2.2.2.2.1, u.2.2.2.2.2.2.2.2.2.2.2.2.2.2.2.2.2.2.2.2.2.2.2.2.2.2.2.2.2.2.2.2.2.2.2.2.2.2.2.2.2.2.2.2.2.2.2.2.2.2.1, u.2.2.2.2.2.2.2.2.2.2.2.2.2.2.2.2.2.2.2.2.2.2.2.2.2.2.2.2.2.2.2.2.2.2.2.2.2.2.2.2.2.2.2.2.2.2.2.2.2.2.2.1, u.2.2.2.2.2.2.2.2.2.2.2.2.2.2.2.2.2.2.2.2.2.2.2.2.2.2.2.2.2.2.2.2.2.2.2.2.2.2.2.2.2.2.2.2.2.2.2.2.2.2.2.2.1, u.2.2.2.2.2.2.2.2.2.2.2.2.2.2.2.2.2.2.2.2.2.2.2.2.2.2.2.2.2.2.2.2.2.2.2.2.2.2.2.2.2.2.2.2.2.2.2.2.2.2.2.2.2.1, u.2.2.2.2.2.2.2.2.2.2.2.2.2.2.2.2.2.2.2.2.2.2.2.2.2.2.2.2.2.2.2.2.2.2.2.2.2.2.2.2.2.2.2.2.2.2.2.2.2.2.2.2.2.2.1, u.2.2.2.2.2.2.2.2.2.2.2.2.2.2.2.2.2.2.2.2.2.2.2.2.2.2.2.2.2.2.2.2.2.2.2.2.2.2.2.2.2.2.2.2.2.2.2.2.2.2.2.2.2.2.2.1, u.2.2.2.2.2.2.2.2.2.2.2.2.2.2.2.2.2.2.2.2.2.2.2.2.2.2.2.2.2.2.2.2.2.2.2.2.2.2.2.2.2.2.2.2.2.2.2.2.2.2.2.2.2.2.2.2)
def rn_Y (p : Int32 → SY → Prop) (x1 : Int32) (n : Nat) (v : SY) : Prop := wY_run_162 p x1 n v.1 v.2.1 v.2.2.1 v.2.2.2.1 v.2.2.2.2.1 v.2.2.2.2.2.1 v.2.2.2.2.2.2.1 v.2.2.2.2.2.2.2.1 v.2.2.2.2.2.2.2.2.1 v.2.2.2.2.2.2.2.2.2.1 v.2.2.2.2.2.2.2.2.2.2.1 v.2.2.2.2.2.2.2.2.2.2.2.1 v.2.2.2.2.2.2.2.2.2.2.2.2.1 v.2.2.2.2.2.2.2.2.2.2.2.2.2.1 v.2.2.2.2.2.2.2.2.2.2.2.2.2.2.1 v.2.2.2.2.2.2.2.2.2.2.2.2.2.2.2.1 v.2.2.2.2.2.2.2.2.2.2.2.2.2.2.2.2.1 v.2.2.2.2.2.2.2.2.2.2.2.2.2.2.2.2.2.1 v.2.2.2.2.2.2.2.2.2.2.2.2.2.2.2.2.2.2.1 v.2.2.2.2.2.2.2.2.2.2.2.2.2.2.2.2.2.2.2.1 v.2.2.2.2.2.2.2.2.2.2.2.2.2.2.2.2.2.2.2.2.1 v.2.2.2.2.2.2.2.2.2.2.2.2.2.2.2.2.2.2.2.2.2.1 v.2.2.2.2.2.2.2.2.2.2.2.2.2.2.2.2.2.2.2.2.2.2.1 v.2.2.2.2.2.2.2.2.2.2.2.2.2.2.2.2.2.2.2.2.2.2.2.1 v.2.2.2.2.2.2.2.2.2.2.2.2.2.2.2.2.2.2.2.2.2.2.2.2.1 v.2.2.2.2.2.2.2.2.2.2.2.2.2.2.2.2.2.2.2.2.2.2.2.2.2.1 v.2.2.2.2.2.2.2.2.2.2.2.2.2.2.2.2.2.2.2.2.2.2.2.2.2.2.1 v.2.2.2.2.2.2.2.2.2.2.2.2.2.2.2.2.2.2.2.2.2.2.2.2.2.2.2.1 v.2.2.2.2.2.2.2.2.2.2.2.2.2.2.2.2.2.2.2.2.2.2.2.2.2.2.2.2.1 v.2.2.2.2.2.2.2.2.2.2.2.2.2.2.2.2.2.2.2.2.2.2.2.2.2.2.2.2.2.1 v.2.2.2.2.2.2.2.2.2.2.2.2.2.2.2.2.2.2.2.2.2.2.2.2.2.2.2.2.2.2.1 v.2.2.2.2.2.2.2.2.2.2.2.2.2.2.2.2.2.2.2.2.2.2.2.2.2.2.2.2.2.2.2.1 v.2.2.2.2.2.2.2.2.2.2.2.2.2.2.2.2.2.2.2.2.2.2.2.2.2.2.2.2.2.2.2.2.1 v.2.2.2.2.2.2.2.2.2.2.2.2.2.2.2.2.2.2.2.2.2.2.2.2.2.2.2.2.2.2.2.2.2.1 v.2.2.2.2.2.2.2.2.2.2.2.2.2.2.2.2.2.2.2.2.2.2.2.2.2.2.2.2.2.2.2.2.2.2.1 v.2.2.2.2.2.2.2.2.2.2.2.2.2.2.2.2.2.2.2.2.2.2.2.2.2.2.2.2.2.2.2.2.2.2.2
theorem rn_Xgo {p : Int32 → SX → Prop} {n : Nat} {r : Int32} {u u' : SX} (h : ∀ post : Int32 → SX → Prop, post r u' → wpX_go post u) (hn : rn_X p n r u') : rn_X p (n + 1) (-1) u := by
  unfold rn_X
  rw [wX_run_144]
  exact br_t rfl (h _ hn)
theorem rn_Xend {p : Int32 → SX → Prop} {n : Nat} {r : Int32} {u w : SX} (hr : ¬ r = -1) (h : ∀ post : SX → Prop, post w → wpX_note post (rn_st u r)) (hp : p r w) : rn_X p (n + 1) r u := by
  unfold rn_X
  rw [wX_run_144]
  exact br_f hr (h _ hp)
theorem rn_XS {r : Int32} {u u' w : SX} (hgo : ∀ post : Int32 → SX → Prop, post r u' → wpX_go post u) (hr : ¬ r = -1) (h : ∀ post : SX → Prop, post w → wpX_note post (rn_st u' r)) {μ : Nat} (hμ : 1 ≤ μ) : ∀ p : Int32 → SX → Prop, p r w → ∀ n, μ < n → rn_X p n (-1) u := by
  intro p hp n hn
  obtain ⟨n', rfl⟩ : ∃ n', n = n' + 1 + 1 := ⟨n - 2, by omega⟩
  exact rn_Xgo hgo (rn_Xend hr h hp)
theorem rn_XG {u u' : SX} (hgo : ∀ post : Int32 → SX → Prop, post (-1) u' → wpX_go post u) {p : Int32 → SX → Prop} {μ : Nat} (h : ∀ n, μ < n → rn_X p n (-1) u') : ∀ n, μ + 1 < n → rn_X p n (-1) u := by
  intro n hn
  obtain ⟨n', rfl⟩ : ∃ n', n = n' + 1 := ⟨n - 1, by omega⟩
  exact rn_Xgo hgo (h n' (by omega))
theorem rn_Ygo {p : Int32 → SY → Prop} {x1 : Int32} {n : Nat} {v v' : SY} {z : Int32} (hz : x1 = 1 ∧ z = 1 ∨ ¬ x1 = 1 ∧ z = 0) (he : v.2.2.2.2.2.2.2.2.2.2.2.2.1 = -1) (h : ∀ post : SY → Prop, post v' → wpY_goOn post v z) (hn : rn_Y p x1 n v') : rn_Y p x1 (n + 1) v := by
  unfold rn_Y
  rw [wY_run_162]
  have hne : ¬ (0 : Int32) ≤ v.2.2.2.2.2.2.2.2.2.2.2.2.1 := by rw [he]; decide
  refine br_f hne ?_
  rcases hz with ⟨a, b⟩ | ⟨a, b⟩
  · rw [b] at h; exact br_t a (h _ hn)
  · rw [b] at h; exact br_f a (h _ hn)
theorem rn_YG {x1 : Int32} {v v' : SY} {z : Int32} (hz : x1 = 1 ∧ z = 1 ∨ ¬ x1 = 1 ∧ z = 0) (he : v.2.2.2.2.2.2.2.2.2.2.2.2.1 = -1) (hgo : ∀ post : SY → Prop, post v' → wpY_goOn post v z) {p : Int32 → SY → Prop} {μ : Nat} (h : ∀ n, μ < n → rn_Y p x1 n v') : ∀ n, μ + 1 < n → rn_Y p x1 n v := by
  intro n hn
  obtain ⟨n', rfl⟩ : ∃ n', n = n' + 1 := ⟨n - 1, by omega⟩
  exact rn_Ygo hz he hgo (h n' (by omega))
theorem rn_Yend {p : Int32 → SY → Prop} {x1 : Int32} {n : Nat} {v : SY} {r : Int32} (he : v.2.2.2.2.2.2.2.2.2.2.2.2.1 = r) (hr : 0 ≤ r) (hp : p r v) : ∀ n, 0 < n → rn_Y p x1 n v := by
  intro n hn
  obtain ⟨n', rfl⟩ : ∃ n', n = n' + 1 := ⟨n - 1, by omega⟩
  subst he
  unfold rn_Y
  rw [wY_run_162]
  exact br_t hr hp
theorem rn_YS {x1 : Int32} {v v' : SY} {z r : Int32} (hz : x1 = 1 ∧ z = 1 ∨ ¬ x1 = 1 ∧ z = 0) (he : v.2.2.2.2.2.2.2.2.2.2.2.2.1 = -1) (hgo : ∀ post : SY → Prop, post v' → wpY_goOn post v z) (he' : v'.2.2.2.2.2.2.2.2.2.2.2.2.1 = r) (hr : 0 ≤ r) {μ : Nat} (hμ : 1 ≤ μ) : ∀ p : Int32 → SY → Prop, p r v' → ∀ n, μ < n → rn_Y p x1 n v := by
  intro p hp n hn
  obtain ⟨n', rfl⟩ : ∃ n', n = n' + 1 := ⟨n - 1, by omega⟩
  exact rn_Ygo hz he hgo (rn_Yend (n := n') he' hr hp n' (by omega))
theorem rn_re {E : Int32 → SX → SY → Prop} {WX WX' : (Int32 → SX → Prop) → Prop} {WY WY' : (Int32 → SY → Prop) → Prop} (h : rn_out E WX' WY') (hx : ∀ p, WX' p → WX p) (hy : ∀ p, WY' p → WY p) : rn_out E WX WY := by
  obtain ⟨r, u, v, h1, h2, h3⟩ := h
  exact ⟨r, u, v, h1, fun p hp => hx p (h2 p hp), fun p hp => hy p (h3 p hp)⟩
/-- the frames of both in a run of the program as it was -/
def rn_O (nc nm : Nat) (ln : Nat → Nat) (d : Nat) (M L : Nat → Nat) (H : Nat → Option Nat) (xfm xfl xfh yvm yvl yvh : Nat → Int32) : Prop :=
  ∀ j, j < d → M j < nm ∧ (∀ x, H j = some x → x < nc) ∧ xfm j = nI (M j) ∧ xfl j = nI (L j) ∧ xfh j = oI (H j) ∧ yvm j = nI (M j) ∧ yvl j = nI (L j) ∧ yvh j = oI (H j) ∧ (j + 1 < d → L j < ln (M j)) ∧ L j < 8
section
variable {nc nm d : Nat} {ln M L : Nat → Nat} {H : Nat → Option Nat} {xfm xfl xfh yvm yvl yvh : Nat → Int32}
theorem rn_Opop {f : Nat} (hln : ∀ m, m < nm → ln m ≤ 6) (h : rn_O nc nm ln (f + 2) M L H xfm xfl xfh yvm yvl yvh) : rn_O nc nm ln (f + 1) M (un L f (L f + 1)) H xfm (upd xfl f (nI (L f + 1))) xfh yvm (upd yvl f (nI (L f + 1))) yvh := by
  intro j hj
  obtain ⟨a1, a2, a3, a4, a5, a6, a7, a8, a9, a10⟩ := h j (by omega)
  by_cases z : j = f
  · subst z
    have h1 := a9 (by omega)
    have h2 := hln _ a1
    exact ⟨a1, a2, a3, by rw [pk_us, un_s], a5, a6, by rw [pk_us, un_s], a8, fun w => by omega, by rw [un_s]; omega⟩
  · exact ⟨a1, a2, a3, by rw [pk_un z, un_n z]; exact a4, a5, a6, by rw [pk_un z, un_n z]; exact a7, a8, fun w => by rw [un_n z]; exact a9 (by omega), by rw [un_n z]; exact a10⟩
theorem rn_Oline {e l : Nat} (hl : l < 8) (h : rn_O nc nm ln (e + 1) M L H xfm xfl xfh yvm yvl yvh) : rn_O nc nm ln (e + 1) M (un L e l) H xfm (upd xfl e (nI l)) xfh yvm (upd yvl e (nI l)) yvh := by
  intro j hj
  obtain ⟨a1, a2, a3, a4, a5, a6, a7, a8, a9, a10⟩ := h j hj
  by_cases z : j = e
  · subst z
    exact ⟨a1, a2, a3, by rw [pk_us, un_s], a5, a6, by rw [pk_us, un_s], a8, fun w => by omega, by rw [un_s]; omega⟩
  · exact ⟨a1, a2, a3, by rw [pk_un z, un_n z]; exact a4, a5, a6, by rw [pk_un z, un_n z]; exact a7, a8, fun w => by rw [un_n z]; exact a9 w, by rw [un_n z]; exact a10⟩
theorem rn_Onew {e c : Nat} (hc : c < nc) (h : rn_O nc nm ln (e + 1) M L H xfm xfl xfh yvm yvl yvh) : rn_O nc nm ln (e + 1) M L (uo H e (some c)) xfm xfl (upd xfh e (nI c)) yvm yvl (upd yvh e (nI c)) := by
  intro j hj
  obtain ⟨a1, a2, a3, a4, a5, a6, a7, a8, a9, a10⟩ := h j hj
  by_cases z : j = e
  · subst z
    exact ⟨a1, fun x ex => by rw [uo_s] at ex; cases ex; exact hc, a3, a4, by rw [pk_us, uo_s]; rfl, a6, a7, by rw [pk_us, uo_s]; rfl, a9, a10⟩
  · exact ⟨a1, fun x ex => by rw [uo_n z] at ex; exact a2 x ex, a3, a4, by rw [pk_un z, uo_n z]; exact a5, a6, a7, by rw [pk_un z, uo_n z]; exact a8, a9, a10⟩
theorem rn_Opush {e g : Nat} {h0 : Option Nat} (hg : g < nm) (hh : ∀ x, h0 = some x → x < nc) (hle : L e < ln (M e)) (h : rn_O nc nm ln (e + 1) M L H xfm xfl xfh yvm yvl yvh) : rn_O nc nm ln (e + 2) (un M (e + 1) g) (un L (e + 1) 0) (uo H (e + 1) h0) (upd xfm (e + 1) (nI g)) (upd xfl (e + 1) (nI 0)) (upd xfh (e + 1) (oI h0)) (upd yvm (e + 1) (nI g)) (upd yvl (e + 1) (nI 0)) (upd yvh (e + 1) (oI h0)) := by
  intro j hj
  by_cases z : j = e + 1
  · subst z
    rw [un_s, un_s, uo_s, pk_us, pk_us, pk_us, pk_us, pk_us, pk_us]
    exact ⟨hg, hh, rfl, rfl, rfl, rfl, rfl, rfl, fun w => by omega, by omega⟩
  · obtain ⟨a1, a2, a3, a4, a5, a6, a7, a8, a9, a10⟩ := h j (by omega)
    rw [un_n z, un_n z, uo_n z, pk_un z, pk_un z, pk_un z, pk_un z, pk_un z, pk_un z]
    refine ⟨a1, a2, a3, a4, a5, a6, a7, a8, fun w => ?_, a10⟩
    by_cases y : j = e
    · rw [y]; exact hle
    · exact a9 (by omega)
end
section
variable {nc nm nr : Nat} {pa : Nat → Option Nat} {hm na ln op rk cl nn : Nat → Nat} {fc ups br ic ii fs sc rc rn : Nat → Int32} {dc fd : Nat → Nat → Option Nat}
variable {xnd xmd xnh xlv xq xs xbt xft xdp xst xss xpt xtr xsm : Int32} {xfs xdc xfd xqu xwt xsi xtg xnw xfa xsg xnn xtk xrl bop bcl bin bsk bme bli bou xnf xfm xfl xfh xou xem xel : Nat → Int32}
variable {ypl ynd ymd ynh ylv ybt ydp yst yot yen : Int32} {yow yma yil ynu ynn yfa yvm yvl yvh ypu : Nat → Int32}
variable {s np : Nat} {ou : Nat → Int32}
theorem sy_goDone {post : SY → Prop} {p0 : Int32} (p : post ((nI nc), (nI nm), (nI nr), ypl, ynd, ymd, ynh, ylv, ybt, (nI 0), (nI s), (nI np), 0, fc, br, (oF pa), ups, yow, yma, (nF hm), (nF na), (nF ln), (nF op), fs, sc, (nF rk), rc, rn, yil, ynu, ynn, yfa, yvm, yvl, yvh, ou)) : wpY_goOn post ((nI nc), (nI nm), (nI nr), ypl, ynd, ymd, ynh, ylv, ybt, (nI 0), (nI s), (nI np), yen, fc, br, (oF pa), ups, yow, yma, (nF hm), (nF na), (nF ln), (nF op), fs, sc, (nF rk), rc, rn, yil, ynu, ynn, yfa, yvm, yvl, yvh, ou) p0 := by
  unfold wpY_goOn
  dsimp only
  exact nm_e (br_t rfl p)
theorem rn_old {E : Int32 → SX → SY → Prop} {x1 : Int32} (C : sp_cls nc fc pa ups) (MM : sp_mth nc nm fc hm na ln br dc) (I : sp_ins nm ln op cl nn ic ii fs sc) (F : sp_fd nc pa fc ups hm dc fd) (W : sp_ok nc nm fc br ln op cl nn fd) (A : ∀ a b, a < nc → b < 10 → xfd (10 * a + b) = oI (fd a b)) (hsm : xsm = 0) (hx1 : ¬ x1 = 1)
    (hE : ∀ (r : Int32) (d s np : Nat) (M L : Nat → Nat) (xfm xfl xfh yvm yvl yvh ou : Nat → Int32), d ≤ 8 → np ≤ 200 → (∀ j, j < d → yvm j = nI (M j) ∧ yvl j = nI (L j)) → E r ((nI nc), (nI nm), (nI nr), xnd, xmd, xnh, xlv, xq, xs, xbt, xft, (nI d), (nI s), r, (nI np), (nI d), xsm, fc, (oF pa), xfs, ups, (nF hm), (nF na), br, (nF ln), (nF op), ic, ii, xdc, xfd, (nF rk), rc, rn, xqu, xwt, xsi, xtg, xnw, xfa, xsg, xnn, xtk, xrl, bop, bcl, bin, bsk, bme, bli, bou, xnf, xfm, xfl, xfh, ou, (rn_em xem M d 0), (rn_em xel L d 0)) ((nI nc), (nI nm), (nI nr), ypl, ynd, ymd, ynh, ylv, ybt, (nI d), (nI s), (nI np), r, fc, br, (oF pa), ups, yow, yma, (nF hm), (nF na), (nF ln), (nF op), fs, sc, (nF rk), rc, rn, yil, ynu, ynn, yfa, yvm, yvl, yvh, ou)) :
    ∀ (μ d s np : Nat) (M L : Nat → Nat) (H : Nat → Option Nat) (xfm xfl xfh yvm yvl yvh ou : Nat → Int32), 2 * (200 - s) + d ≤ μ → 1 ≤ d → d ≤ 8 → s ≤ 200 → np ≤ s → rn_O nc nm ln d M L H xfm xfl xfh yvm yvl yvh →
      rn_out E (fun p => ∀ n, μ < n → rn_X p n (-1) ((nI nc), (nI nm), (nI nr), xnd, xmd, xnh, xlv, xq, xs, xbt, xft, (nI d), (nI s), xss, (nI np), xtr, xsm, fc, (oF pa), xfs, ups, (nF hm), (nF na), br, (nF ln), (nF op), ic, ii, xdc, xfd, (nF rk), rc, rn, xqu, xwt, xsi, xtg, xnw, xfa, xsg, xnn, xtk, xrl, bop, bcl, bin, bsk, bme, bli, bou, xnf, xfm, xfl, xfh, ou, xem, xel)) (fun p => ∀ n, 2 * μ + 2 < n → rn_Y p x1 n ((nI nc), (nI nm), (nI nr), ypl, ynd, ymd, ynh, ylv, ybt, (nI d), (nI s), (nI np), (-1), fc, br, (oF pa), ups, yow, yma, (nF hm), (nF na), (nF ln), (nF op), fs, sc, (nF rk), rc, rn, yil, ynu, ynn, yfa, yvm, yvl, yvh, ou)) := by
  have h10 := C.1
  have h30 := MM.1
  have hln : ∀ m, m < nm → ln m ≤ 6 := fun m hm' => (MM.2.1 m hm').2.2.1
  have hz : x1 = 1 ∧ (0 : Int32) = 1 ∨ ¬ x1 = 1 ∧ (0 : Int32) = 0 := Or.inr ⟨hx1, rfl⟩
  intro μ
  induction μ with
  | zero => intro d s np M L H xfm xfl xfh yvm yvl yvh ou h1 h2; omega
  | succ μ ih =>
    intro d s np M L H xfm xfl xfh yvm yvl yvh ou hμ hd1 hd8 hs hnp hfr
    obtain ⟨e, rfl⟩ : ∃ e, d = e + 1 := ⟨d - 1, by omega⟩
    obtain ⟨a1, a2, a3, a4, a5, a6, a7, a8, a9, a10⟩ := hfr e (by omega)
    have hl6 := hln _ a1
    have hfY : ∀ j, j < e + 1 → yvm j = nI (M j) ∧ yvl j = nI (L j) := fun j hj => by
      obtain ⟨_, _, _, _, _, b6, b7, _⟩ := hfr j hj
      exact ⟨b6, b7⟩
    have hfX : ∀ j, j < e + 1 → xfm j = nI (M j) ∧ xfl j = nI (L j) ∧ M j < 30 ∧ L j < 24 := fun j hj => by
      obtain ⟨b1, _, b3, b4, _, _, _, _, _, b10⟩ := hfr j hj
      exact ⟨b3, b4, by omega, by omega⟩
    have hlow : ∀ f, e = f + 1 → L f < 8 := fun f ef => by
      obtain ⟨_, _, _, _, _, _, _, _, _, b10⟩ := hfr f (by omega)
      exact b10
    rcases Nat.lt_or_ge (L e) (ln (M e)) with hlt | hge
    · -- an instruction
      have hXg : ∀ {post : Int32 → SX → Prop}, s < 200 → wpX_stepOld post ((nI nc), (nI nm), (nI nr), xnd, xmd, xnh, xlv, xq, xs, xbt, xft, (nI (e + 1)), (nI (s + 1)), xss, (nI np), xtr, xsm, fc, (oF pa), xfs, ups, (nF hm), (nF na), br, (nF ln), (nF op), ic, ii, xdc, xfd, (nF rk), rc, rn, xqu, xwt, xsi, xtg, xnw, xfa, xsg, xnn, xtk, xrl, bop, bcl, bin, bsk, bme, bli, bou, xnf, xfm, xfl, xfh, ou, xem, xel) (nI e) (nI (6 * M e + L e)) → wpX_go post ((nI nc), (nI nm), (nI nr), xnd, xmd, xnh, xlv, xq, xs, xbt, xft, (nI (e + 1)), (nI s), xss, (nI np), xtr, xsm, fc, (oF pa), xfs, ups, (nF hm), (nF na), br, (nF ln), (nF op), ic, ii, xdc, xfd, (nF rk), rc, rn, xqu, xwt, xsi, xtg, xnw, xfa, xsg, xnn, xtk, xrl, bop, bcl, bin, bsk, bme, bli, bou, xnf, xfm, xfl, xfh, ou, xem, xel) := fun hs' h =>
        sx_goStep (by omega) (by omega) a3 a4 (by omega) (by omega) hs (Or.inl ⟨hsm, rfl⟩) hlt (fun z => by omega) (fun _ _ => h) (fun _ z => absurd hsm z)
      have hYg : ∀ {post : SY → Prop}, s < 200 → wpY_step post ((nI nc), (nI nm), (nI nr), ypl, ynd, ymd, ynh, ylv, ybt, (nI (e + 1)), (nI (s + 1)), (nI np), (-1), fc, br, (oF pa), ups, yow, yma, (nF hm), (nF na), (nF ln), (nF op), fs, sc, (nF rk), rc, rn, yil, ynu, ynn, yfa, yvm, yvl, yvh, ou) 0 (nI e) (nI (6 * M e + L e)) → wpY_goOn post ((nI nc), (nI nm), (nI nr), ypl, ynd, ymd, ynh, ylv, ybt, (nI (e + 1)), (nI s), (nI np), (-1), fc, br, (oF pa), ups, yow, yma, (nF hm), (nF na), (nF ln), (nF op), fs, sc, (nF rk), rc, rn, yil, ynu, ynn, yfa, yvm, yvl, yvh, ou) 0 := fun hs' h =>
        sy_goStep (by omega) (by omega) a6 a7 (by omega) (by omega) hs hlt (fun z => by omega) (fun _ => h)
      rcases Nat.lt_or_ge s 200 with hs2 | hs2
      · have hi : 6 * M e + L e < 180 := by omega
        have Ii := I (M e) (L e) a1 hlt
        have hcc := sp_okc W a1 hlt
        have hff := sp_okf W a1 hlt
        have hn5 := Ii.2.2.2.2.1
        have hn4 := Ii.2.2.2.1
        have ho6 := Ii.1
        generalize hie : 6 * M e + L e = i at *
        have hXs : ∀ {post : Int32 → SX → Prop}, (op i = 0 → post (-1) ((nI nc), (nI nm), (nI nr), xnd, xmd, xnh, xlv, xq, xs, xbt, xft, (nI (e + 1)), (nI (s + 1)), xss, (nI (np + 1)), xtr, xsm, fc, (oF pa), xfs, ups, (nF hm), (nF na), br, (nF ln), (nF op), ic, ii, xdc, xfd, (nF rk), rc, rn, xqu, xwt, xsi, xtg, xnw, xfa, xsg, xnn, xtk, xrl, bop, bcl, bin, bsk, bme, bli, bou, xnf, xfm, (upd xfl e (nI (L e + 1))), xfh, (upd ou np (sc i)), xem, xel)) → (op i = 1 → post (-1) ((nI nc), (nI nm), (nI nr), xnd, xmd, xnh, xlv, xq, xs, xbt, xft, (nI (e + 1)), (nI (s + 1)), xss, (nI np), xtr, xsm, fc, (oF pa), xfs, ups, (nF hm), (nF na), br, (nF ln), (nF op), ic, ii, xdc, xfd, (nF rk), rc, rn, xqu, xwt, xsi, xtg, xnw, xfa, xsg, xnn, xtk, xrl, bop, bcl, bin, bsk, bme, bli, bou, xnf, xfm, (upd xfl e (nI (L e + 1))), (upd xfh e (nI (cl i))), ou, xem, xel)) → (op i = 2 → rn_bel ups (H e) (cl i) = false → post 2 ((nI nc), (nI nm), (nI nr), xnd, xmd, xnh, xlv, xq, xs, xbt, xft, (nI (e + 1)), (nI (s + 1)), xss, (nI np), xtr, xsm, fc, (oF pa), xfs, ups, (nF hm), (nF na), br, (nF ln), (nF op), ic, ii, xdc, xfd, (nF rk), rc, rn, xqu, xwt, xsi, xtg, xnw, xfa, xsg, xnn, xtk, xrl, bop, bcl, bin, bsk, bme, bli, bou, xnf, xfm, xfl, xfh, ou, xem, xel)) →
            ((op i = 2 ∧ rn_bel ups (H e) (cl i) = true ∨ op i = 3) → rn_cO op cl nn fd br (H e) i = none → post 3 ((nI nc), (nI nm), (nI nr), xnd, xmd, xnh, xlv, xq, xs, xbt, xft, (nI (e + 1)), (nI (s + 1)), xss, (nI np), xtr, xsm, fc, (oF pa), xfs, ups, (nF hm), (nF na), br, (nF ln), (nF op), ic, ii, xdc, xfd, (nF rk), rc, rn, xqu, xwt, xsi, xtg, xnw, xfa, xsg, xnn, xtk, xrl, bop, bcl, bin, bsk, bme, bli, bou, xnf, xfm, xfl, xfh, ou, xem, xel)) → ((op i = 2 ∧ rn_bel ups (H e) (cl i) = true ∨ op i = 3) → ∀ g, rn_cO op cl nn fd br (H e) i = some g → e + 1 = 8 → post 4 ((nI nc), (nI nm), (nI nr), xnd, xmd, xnh, xlv, xq, xs, xbt, xft, (nI (e + 1)), (nI (s + 1)), xss, (nI np), xtr, xsm, fc, (oF pa), xfs, ups, (nF hm), (nF na), br, (nF ln), (nF op), ic, ii, xdc, xfd, (nF rk), rc, rn, xqu, xwt, xsi, xtg, xnw, xfa, xsg, xnn, xtk, xrl, bop, bcl, bin, bsk, bme, bli, bou, xnf, xfm, xfl, xfh, ou, xem, xel)) →
            ((op i = 2 ∧ rn_bel ups (H e) (cl i) = true ∨ op i = 3) → ∀ g, rn_cO op cl nn fd br (H e) i = some g → e + 1 < 8 → post (-1) ((nI nc), (nI nm), (nI nr), xnd, xmd, xnh, xlv, xq, xs, xbt, xft, (nI (e + 2)), (nI (s + 1)), xss, (nI np), xtr, xsm, fc, (oF pa), xfs, ups, (nF hm), (nF na), br, (nF ln), (nF op), ic, ii, xdc, xfd, (nF rk), rc, rn, xqu, xwt, xsi, xtg, xnw, xfa, xsg, xnn, xtk, xrl, bop, bcl, bin, bsk, bme, bli, bou, xnf, (upd xfm (e + 1) (nI g)), (upd xfl (e + 1) (nI 0)), (upd xfh (e + 1) (oI (H e))), ou, xem, xel)) →
            (op i = 4 → post (-1) ((nI nc), (nI nm), (nI nr), xnd, xmd, xnh, xlv, xq, xs, xbt, xft, (nI (e + 1)), (nI (s + 1)), xss, (nI np), xtr, xsm, fc, (oF pa), xfs, ups, (nF hm), (nF na), br, (nF ln), (nF op), ic, ii, xdc, xfd, (nF rk), rc, rn, xqu, xwt, xsi, xtg, xnw, xfa, xsg, xnn, xtk, xrl, bop, bcl, bin, bsk, bme, bli, bou, xnf, xfm, (upd xfl e (nI (L e + if rn_bel ups (H e) (cl i) = true then 1 else 2))), xfh, ou, xem, xel)) → (op i = 5 → post 1 ((nI nc), (nI nm), (nI nr), xnd, xmd, xnh, xlv, xq, xs, xbt, xft, (nI (e + 1)), (nI (s + 1)), xss, (nI np), xtr, xsm, fc, (oF pa), xfs, ups, (nF hm), (nF na), br, (nF ln), (nF op), ic, ii, xdc, xfd, (nF rk), rc, rn, xqu, xwt, xsi, xtg, xnw, xfa, xsg, xnn, xtk, xrl, bop, bcl, bin, bsk, bme, bli, bou, xnf, xfm, xfl, xfh, ou, xem, xel)) → wpX_stepOld post ((nI nc), (nI nm), (nI nr), xnd, xmd, xnh, xlv, xq, xs, xbt, xft, (nI (e + 1)), (nI (s + 1)), xss, (nI np), xtr, xsm, fc, (oF pa), xfs, ups, (nF hm), (nF na), br, (nF ln), (nF op), ic, ii, xdc, xfd, (nF rk), rc, rn, xqu, xwt, xsi, xtg, xnw, xfa, xsg, xnn, xtk, xrl, bop, bcl, bin, bsk, bme, bli, bou, xnf, xfm, xfl, xfh, ou, xem, xel) (nI e) (nI i) := fun p1 p2 p3 p4 p5 p6 p7 p8 =>
          sx_stepOld (d := e + 1) (s := s + 1) (np := np) (ou := ou) (l := L e) (h := H e) C MM F A (by omega) hi Ii hcc hd8 a4 (by omega) a5 a2 (by omega) p1 p2 p3 p4 p5 p6 p7 p8
        have hYs : ∀ {post : SY → Prop}, (op i = 0 → post ((nI nc), (nI nm), (nI nr), ypl, ynd, ymd, ynh, ylv, ybt, (nI (e + 1)), (nI (s + 1)), (nI (np + 1)), (-1), fc, br, (oF pa), ups, yow, yma, (nF hm), (nF na), (nF ln), (nF op), fs, sc, (nF rk), rc, rn, yil, ynu, ynn, yfa, yvm, (upd yvl e (nI (L e + 1))), yvh, (upd ou np (sc i)))) → (op i = 1 → post ((nI nc), (nI nm), (nI nr), ypl, ynd, ymd, ynh, ylv, ybt, (nI (e + 1)), (nI (s + 1)), (nI np), (-1), fc, br, (oF pa), ups, yow, yma, (nF hm), (nF na), (nF ln), (nF op), fs, sc, (nF rk), rc, rn, yil, ynu, ynn, yfa, yvm, (upd yvl e (nI (L e + 1))), (upd yvh e (nI (cl i))), ou)) → (op i = 2 → rn_bel ups (H e) (cl i) = false → post ((nI nc), (nI nm), (nI nr), ypl, ynd, ymd, ynh, ylv, ybt, (nI (e + 1)), (nI (s + 1)), (nI np), 2, fc, br, (oF pa), ups, yow, yma, (nF hm), (nF na), (nF ln), (nF op), fs, sc, (nF rk), rc, rn, yil, ynu, ynn, yfa, yvm, yvl, yvh, ou)) →
            (op i = 2 → rn_bel ups (H e) (cl i) = true → wpY_call post ((nI nc), (nI nm), (nI nr), ypl, ynd, ymd, ynh, ylv, ybt, (nI (e + 1)), (nI (s + 1)), (nI np), (-1), fc, br, (oF pa), ups, yow, yma, (nF hm), (nF na), (nF ln), (nF op), fs, sc, (nF rk), rc, rn, yil, ynu, ynn, yfa, yvm, yvl, yvh, ou) 0 (nI i) (oI (H e))) → (op i = 3 → wpY_call post ((nI nc), (nI nm), (nI nr), ypl, ynd, ymd, ynh, ylv, ybt, (nI (e + 1)), (nI (s + 1)), (nI np), (-1), fc, br, (oF pa), ups, yow, yma, (nF hm), (nF na), (nF ln), (nF op), fs, sc, (nF rk), rc, rn, yil, ynu, ynn, yfa, yvm, yvl, yvh, ou) 0 (nI i) (-1)) → (op i = 4 → post ((nI nc), (nI nm), (nI nr), ypl, ynd, ymd, ynh, ylv, ybt, (nI (e + 1)), (nI (s + 1)), (nI np), (-1), fc, br, (oF pa), ups, yow, yma, (nF hm), (nF na), (nF ln), (nF op), fs, sc, (nF rk), rc, rn, yil, ynu, ynn, yfa, yvm, (upd yvl e (nI (L e + if rn_bel ups (H e) (cl i) = true then 1 else 2))), yvh, ou)) → (op i = 5 → post ((nI nc), (nI nm), (nI nr), ypl, ynd, ymd, ynh, ylv, ybt, (nI (e + 1)), (nI (s + 1)), (nI np), 1, fc, br, (oF pa), ups, yow, yma, (nF hm), (nF na), (nF ln), (nF op), fs, sc, (nF rk), rc, rn, yil, ynu, ynn, yfa, yvm, yvl, yvh, ou)) → wpY_step post ((nI nc), (nI nm), (nI nr), ypl, ynd, ymd, ynh, ylv, ybt, (nI (e + 1)), (nI (s + 1)), (nI np), (-1), fc, br, (oF pa), ups, yow, yma, (nF hm), (nF na), (nF ln), (nF op), fs, sc, (nF rk), rc, rn, yil, ynu, ynn, yfa, yvm, yvl, yvh, ou) 0 (nI e) (nI i) := fun p1 p2 p3 p4 p5 p6 p7 =>
          sy_step (d := e + 1) (s := s + 1) (np := np) (ou := ou) (l := L e) (h := H e) (yen := -1) (by omega) hi Ii a7 (by omega) a8 (fun x ex => by have := a2 x ex; omega) (by omega) p1 p2 p3 p4 p5 p6 p7
        have hstop : ∀ (r : Int32), ¬ r = -1 → 0 ≤ r → (∀ post : Int32 → SX → Prop, post r ((nI nc), (nI nm), (nI nr), xnd, xmd, xnh, xlv, xq, xs, xbt, xft, (nI (e + 1)), (nI (s + 1)), xss, (nI np), xtr, xsm, fc, (oF pa), xfs, ups, (nF hm), (nF na), br, (nF ln), (nF op), ic, ii, xdc, xfd, (nF rk), rc, rn, xqu, xwt, xsi, xtg, xnw, xfa, xsg, xnn, xtk, xrl, bop, bcl, bin, bsk, bme, bli, bou, xnf, xfm, xfl, xfh, ou, xem, xel) → wpX_stepOld post ((nI nc), (nI nm), (nI nr), xnd, xmd, xnh, xlv, xq, xs, xbt, xft, (nI (e + 1)), (nI (s + 1)), xss, (nI np), xtr, xsm, fc, (oF pa), xfs, ups, (nF hm), (nF na), br, (nF ln), (nF op), ic, ii, xdc, xfd, (nF rk), rc, rn, xqu, xwt, xsi, xtg, xnw, xfa, xsg, xnn, xtk, xrl, bop, bcl, bin, bsk, bme, bli, bou, xnf, xfm, xfl, xfh, ou, xem, xel) (nI e) (nI i)) → (∀ post : SY → Prop, post ((nI nc), (nI nm), (nI nr), ypl, ynd, ymd, ynh, ylv, ybt, (nI (e + 1)), (nI (s + 1)), (nI np), r, fc, br, (oF pa), ups, yow, yma, (nF hm), (nF na), (nF ln), (nF op), fs, sc, (nF rk), rc, rn, yil, ynu, ynn, yfa, yvm, yvl, yvh, ou) → wpY_step post ((nI nc), (nI nm), (nI nr), ypl, ynd, ymd, ynh, ylv, ybt, (nI (e + 1)), (nI (s + 1)), (nI np), (-1), fc, br, (oF pa), ups, yow, yma, (nF hm), (nF na), (nF ln), (nF op), fs, sc, (nF rk), rc, rn, yil, ynu, ynn, yfa, yvm, yvl, yvh, ou) 0 (nI e) (nI i)) →
            rn_out E (fun p => ∀ n, μ + 1 < n → rn_X p n (-1) ((nI nc), (nI nm), (nI nr), xnd, xmd, xnh, xlv, xq, xs, xbt, xft, (nI (e + 1)), (nI s), xss, (nI np), xtr, xsm, fc, (oF pa), xfs, ups, (nF hm), (nF na), br, (nF ln), (nF op), ic, ii, xdc, xfd, (nF rk), rc, rn, xqu, xwt, xsi, xtg, xnw, xfa, xsg, xnn, xtk, xrl, bop, bcl, bin, bsk, bme, bli, bou, xnf, xfm, xfl, xfh, ou, xem, xel)) (fun p => ∀ n, 2 * (μ + 1) + 2 < n → rn_Y p x1 n ((nI nc), (nI nm), (nI nr), ypl, ynd, ymd, ynh, ylv, ybt, (nI (e + 1)), (nI s), (nI np), (-1), fc, br, (oF pa), ups, yow, yma, (nF hm), (nF na), (nF ln), (nF op), fs, sc, (nF rk), rc, rn, yil, ynu, ynn, yfa, yvm, yvl, yvh, ou)) := fun r hr1 hr2 hx hy =>
          ⟨r, _, _, hE r (e + 1) (s + 1) np M L xfm xfl xfh yvm yvl yvh ou hd8 (by omega) hfY, rn_XS (fun post hp => hXg hs2 (hx post hp)) hr1 (fun post hp => sx_noteO hd8 hsm hfX hp) (by omega), rn_YS hz rfl (fun post hp => hYg hs2 (hy post hp)) rfl hr2 (by omega)⟩
        have hcall : (op i = 2 ∧ rn_bel ups (H e) (cl i) = true ∨ op i = 3) → rn_out E (fun p => ∀ n, μ + 1 < n → rn_X p n (-1) ((nI nc), (nI nm), (nI nr), xnd, xmd, xnh, xlv, xq, xs, xbt, xft, (nI (e + 1)), (nI s), xss, (nI np), xtr, xsm, fc, (oF pa), xfs, ups, (nF hm), (nF na), br, (nF ln), (nF op), ic, ii, xdc, xfd, (nF rk), rc, rn, xqu, xwt, xsi, xtg, xnw, xfa, xsg, xnn, xtk, xrl, bop, bcl, bin, bsk, bme, bli, bou, xnf, xfm, xfl, xfh, ou, xem, xel)) (fun p => ∀ n, 2 * (μ + 1) + 2 < n → rn_Y p x1 n ((nI nc), (nI nm), (nI nr), ypl, ynd, ymd, ynh, ylv, ybt, (nI (e + 1)), (nI s), (nI np), (-1), fc, br, (oF pa), ups, yow, yma, (nF hm), (nF na), (nF ln), (nF op), fs, sc, (nF rk), rc, rn, yil, ynu, ynn, yfa, yvm, yvl, yvh, ou)) := by
          intro hop
          obtain ⟨f1, f2, f3⟩ := hn5 (by omega)
          -- the class that is asked
          have hcl : ∃ c hx, c < nc ∧ rn_cO op cl nn fd br (H e) i = rn_go br (fd c (nn i)) ∧ (hx = nI c ∨ hx = -1 ∧ fs i = nI c) ∧ (∀ post : SY → Prop, wpY_call post ((nI nc), (nI nm), (nI nr), ypl, ynd, ymd, ynh, ylv, ybt, (nI (e + 1)), (nI (s + 1)), (nI np), (-1), fc, br, (oF pa), ups, yow, yma, (nF hm), (nF na), (nF ln), (nF op), fs, sc, (nF rk), rc, rn, yil, ynu, ynn, yfa, yvm, yvl, yvh, ou) 0 (nI i) hx → wpY_step post ((nI nc), (nI nm), (nI nr), ypl, ynd, ymd, ynh, ylv, ybt, (nI (e + 1)), (nI (s + 1)), (nI np), (-1), fc, br, (oF pa), ups, yow, yma, (nF hm), (nF na), (nF ln), (nF op), fs, sc, (nF rk), rc, rn, yil, ynu, ynn, yfa, yvm, yvl, yvh, ou) 0 (nI e) (nI i)) := by
            rcases hop with ⟨o2, hb⟩ | o3
            · cases eh : H e with
              | none => rw [eh] at hb; cases hb
              | some x =>
                refine ⟨x, nI x, a2 x eh, by unfold rn_cO; rw [if_neg (by omega)], Or.inl rfl, fun post hp => hYs (fun z => by omega) (fun z => by omega) (fun _ z => by rw [hb] at z; cases z) (fun _ _ => by rw [eh]; exact hp) (fun z => by omega) (fun z => by omega) (fun z => by omega)⟩
            · exact ⟨cl i, -1, hcc (by omega) (by omega), by unfold rn_cO; rw [if_pos o3], Or.inr ⟨rfl, (hn4 (by omega) (by omega)).2.1⟩, fun post hp => hYs (fun z => by omega) (fun z => by omega) (fun z => by omega) (fun z => by omega) (fun _ => hp) (fun z => by omega) (fun z => by omega)⟩
          obtain ⟨c, hx, c1, c2, c3, c4⟩ := hcl
          have hgm : ∀ g, rn_cO op cl nn fd br (H e) i = some g → g < nm := by
            intro g eg
            rw [c2] at eg
            unfold rn_go at eg
            cases ef : fd c (nn i) with
            | none => rw [ef] at eg; cases eg
            | some x =>
              rw [ef] at eg
              dsimp only at eg
              have := (sp_sound C MM F c _ x c1 ef).1
              split at eg
              · cases eg; exact this
              · cases eg
          cases et : rn_cO op cl nn fd br (H e) i with
          | none =>
            refine hstop 3 (by decide) (by decide) (fun post hp => hXs (fun z => by omega) (fun z => by omega) (fun o2 z => ?_) (fun _ _ => hp) (fun _ g eg => by rw [et] at eg; cases eg) (fun _ g eg => by rw [et] at eg; cases eg) (fun z => by omega) (fun z => by omega)) (fun post hp => c4 post (sy_callO C MM F (by omega) hi c1 f3 f2 c3 a8 (fun _ => hp) (fun g eg => by rw [← c2, et] at eg; cases eg) (fun g eg => by rw [← c2, et] at eg; cases eg)))
            rcases hop with ⟨_, hb⟩ | o3
            · rw [hb] at z; cases z
            · omega
          | some g =>
            have hg := hgm g et
            rcases Nat.lt_or_ge (e + 1) 8 with h8 | h8
            · refine rn_re (ih (e + 2) (s + 1) np _ _ _ _ _ _ _ _ _ ou (by omega) (by omega) (by omega) (by omega) (by omega) (rn_Opush hg a2 hlt hfr)) (fun p hp => rn_XG (fun post hpp => hXg hs2 (hXs (fun z => by omega) (fun z => by omega) (fun o2 z => ?_) (fun _ z => by rw [et] at z; cases z) (fun _ _ _ z => by omega) (fun _ g' eg _ => by rw [et] at eg; cases eg; exact hpp) (fun z => by omega) (fun z => by omega))) hp) (fun p hp n hn => rn_YG hz rfl (fun post hpp => hYg hs2 (c4 post (sy_callO C MM F (by omega) hi c1 f3 f2 c3 a8 (fun z => by rw [← c2, et] at z; cases z) (fun _ _ z => by omega) (fun g' eg _ => by rw [← c2, et] at eg; cases eg; exact hpp)))) hp n (by omega))
              rcases hop with ⟨_, hb⟩ | o3
              · rw [hb] at z; cases z
              · omega
            · refine hstop 4 (by decide) (by decide) (fun post hp => hXs (fun z => by omega) (fun z => by omega) (fun o2 z => ?_) (fun _ z => by rw [et] at z; cases z) (fun _ _ _ _ => hp) (fun _ _ _ z => by omega) (fun z => by omega) (fun z => by omega)) (fun post hp => c4 post (sy_callO C MM F (by omega) hi c1 f3 f2 c3 a8 (fun z => by rw [← c2, et] at z; cases z) (fun _ _ _ => hp) (fun _ _ z => by omega)))
              rcases hop with ⟨_, hb⟩ | o3
              · rw [hb] at z; cases z
              · omega
        have ho : op i = 0 ∨ op i = 1 ∨ op i = 2 ∨ op i = 3 ∨ op i = 4 ∨ op i = 5 := by omega
        rcases ho with o | o | o | o | o | o
        · exact rn_re (ih (e + 1) (s + 1) (np + 1) _ _ _ _ _ _ _ _ _ _ (by omega) hd1 hd8 (by omega) (by omega) (rn_Oline (l := L e + 1) (by omega) hfr)) (fun p hp => rn_XG (fun post hpp => hXg hs2 (hXs (fun _ => hpp) (fun z => by omega) (fun z => by omega) (fun z => by omega) (fun z => by omega) (fun z => by omega) (fun z => by omega) (fun z => by omega))) hp) (fun p hp n hn => rn_YG hz rfl (fun post hpp => hYg hs2 (hYs (fun _ => hpp) (fun z => by omega) (fun z => by omega) (fun z => by omega) (fun z => by omega) (fun z => by omega) (fun z => by omega))) hp n (by omega))
        · exact rn_re (ih (e + 1) (s + 1) np _ _ _ _ _ _ _ _ _ ou (by omega) hd1 hd8 (by omega) (by omega) (rn_Onew (c := cl i) (hcc (by omega) (by omega)) (rn_Oline (l := L e + 1) (by omega) hfr))) (fun p hp => rn_XG (fun post hpp => hXg hs2 (hXs (fun z => by omega) (fun _ => hpp) (fun z => by omega) (fun z => by omega) (fun z => by omega) (fun z => by omega) (fun z => by omega) (fun z => by omega))) hp) (fun p hp n hn => rn_YG hz rfl (fun post hpp => hYg hs2 (hYs (fun z => by omega) (fun _ => hpp) (fun z => by omega) (fun z => by omega) (fun z => by omega) (fun z => by omega) (fun z => by omega))) hp n (by omega))
        · cases hb : rn_bel ups (H e) (cl i) with
          | false =>
            have hnot : ¬ (op i = 2 ∧ rn_bel ups (H e) (cl i) = true ∨ op i = 3) := by
              rintro (⟨_, z⟩ | z)
              · rw [hb] at z; cases z
              · omega
            exact hstop 2 (by decide) (by decide) (fun post hp => hXs (fun z => by omega) (fun z => by omega) (fun _ _ => hp) (fun z => absurd z hnot) (fun z => absurd z hnot) (fun z => absurd z hnot) (fun z => by omega) (fun z => by omega)) (fun post hp => hYs (fun z => by omega) (fun z => by omega) (fun _ _ => hp) (fun _ z => by rw [hb] at z; cases z) (fun z => by omega) (fun z => by omega) (fun z => by omega))
          | true => exact hcall (Or.inl ⟨o, hb⟩)
        · exact hcall (Or.inr o)
        · have hl8 : L e + (if rn_bel ups (H e) (cl i) = true then 1 else 2) < 8 := by split <;> omega
          exact rn_re (ih (e + 1) (s + 1) np _ _ _ _ _ _ _ _ _ ou (by omega) hd1 hd8 (by omega) (by omega) (rn_Oline hl8 hfr)) (fun p hp => rn_XG (fun post hpp => hXg hs2 (hXs (fun z => by omega) (fun z => by omega) (fun z => by omega) (fun z => by omega) (fun z => by omega) (fun z => by omega) (fun _ => hpp) (fun z => by omega))) hp) (fun p hp n hn => rn_YG hz rfl (fun post hpp => hYg hs2 (hYs (fun z => by omega) (fun z => by omega) (fun z => by omega) (fun z => by omega) (fun z => by omega) (fun _ => hpp) (fun z => by omega))) hp n (by omega))
        · exact hstop 1 (by decide) (by decide) (fun post hp => hXs (fun z => by omega) (fun z => by omega) (fun z => by omega) (fun z => by omega) (fun z => by omega) (fun z => by omega) (fun z => by omega) (fun _ => hp)) (fun post hp => hYs (fun z => by omega) (fun z => by omega) (fun z => by omega) (fun z => by omega) (fun z => by omega) (fun z => by omega) (fun _ => hp))
      · exact ⟨5, _, _, hE 5 (e + 1) s np M L xfm xfl xfh yvm yvl yvh ou hd8 (by omega) hfY, rn_XS (fun post hp => sx_goStep (by omega) (by omega) a3 a4 (by omega) (by omega) hs (Or.inl ⟨hsm, rfl⟩) hlt (fun _ => hp) (fun z => by omega) (fun z => by omega)) (by decide) (fun post hp => sx_noteO hd8 hsm hfX hp) (by omega), rn_YS (r := 5) hz rfl (fun post hp => sy_goStep (by omega) (by omega) a6 a7 (by omega) (by omega) hs hlt (fun _ => hp) (fun z => by omega)) rfl (show (0 : Int32) ≤ 5 by decide) (by omega)⟩
    · -- an invocation is through
      have hX' : ∀ f, e = f + 1 → ∃ l', xfl f = nI l' ∧ l' < 127 := fun f ef => ⟨L f, (hfX f (by omega)).2.1, by have := hlow f ef; omega⟩
      have hY' : ∀ f, e = f + 1 → ∃ l', yvl f = nI l' ∧ l' < 127 := fun f ef => ⟨L f, (hfY f (by omega)).2, by have := hlow f ef; omega⟩
      rcases Nat.eq_zero_or_pos e with e0 | epos
      · refine ⟨0, _, _, hE 0 0 s np M L xfm xfl xfh yvm yvl yvh ou (by omega) (by omega) (fun j hj => by omega), rn_XS (fun post hp => sx_goPop (by omega) (by omega) a3 a4 (by omega) (by omega) (Or.inl ⟨hsm, rfl⟩) hge (fun _ => hp) (fun f _ ef => by omega) hX') (by decide) (fun post hp => sx_noteO (d := 0) (by omega) hsm (fun j hj => by omega) hp) (by omega), fun p hp n hn => ?_⟩
        exact rn_YG hz rfl (fun post hpp => sy_goPop (by omega) (by omega) a6 a7 (by omega) (by omega) hge (fun _ => hpp) (fun f _ ef => by omega) hY') (rn_YS (μ := 1) (r := 0) hz rfl (fun post hpp => sy_goDone hpp) rfl (show (0 : Int32) ≤ 0 by decide) (by omega) p hp) n (by omega)
      · obtain ⟨f, rfl⟩ : ∃ f, e = f + 1 := ⟨e - 1, by omega⟩
        refine rn_re (ih (f + 1) s np _ _ _ _ _ _ _ _ _ ou (by omega) (by omega) (by omega) hs hnp (rn_Opop hln hfr)) (fun p hp => rn_XG (fun post hpp => sx_goPop (by omega) (by omega) a3 a4 (by omega) (by omega) (Or.inl ⟨hsm, rfl⟩) hge (fun z => by omega) (fun f' l' ef el hl' => ?_) hX') hp) (fun p hp n hn => rn_YG hz rfl (fun post hpp => sy_goPop (by omega) (by omega) a6 a7 (by omega) (by omega) hge (fun z => by omega) (fun f' l' ef el hl' => ?_) hY') hp n (by omega))
        · have : f' = f := by omega
          subst this
          have q := (hfX f' (by omega)).2.1
          have hq := hlow f' rfl
          rw [q] at el
          rw [← sd_inj (by omega) (by omega) el]; exact hpp
        · have : f' = f := by omega
          subst this
          have q := (hfY f' (by omega)).2
          have hq := hlow f' rfl
          rw [q] at el
          rw [← sd_inj (by omega) (by omega) el]; exact hpp
end
end
section
/-! runs: the program as it is built -/
def rn_lv (lv : Int32) (o : Option Nat) : Option Nat := match o with
  | none => none
  | some g => if bt lv g = true then some g else none
/-- what a call enters in the new program -/
def rn_cN (op cl nn : Nat → Nat) (fd : Nat → Nat → Option Nat) (nf : Nat → Int32 → Option Nat) (N : Nat → Nat) (lv : Int32) (h : Option Nat) (i : Nat) : Option Nat :=
  if op i = 3 then rn_lv lv (nf (cl i) (nI (N ((fd (cl i) (nn i)).getD 0)))) else match h with
  | none => none
  | some x => rn_lv lv (nf x (nI (N ((fd (cl i) (nn i)).getD 0))))
theorem rn_lvI {lv : Int32} {o : Option Nat} {g : Nat} (h : rn_lv lv o = some g) : o = some g ∧ bt lv g = true := by
  unfold rn_lv at h
  cases o with
  | none => cases h
  | some x =>
    dsimp only at h
    split at h
    · cases h; exact ⟨rfl, by assumption⟩
    · cases h
section
variable {nc nm nr : Nat} {pa : Nat → Option Nat} {hm na ln op rk cl nn : Nat → Nat} {fc ups br ic ii fs sc rc rn : Nat → Int32} {dc fd : Nat → Nat → Option Nat}
variable {xnd xmd xnh xlv xq xs xbt xft xdp xst xss xpt xtr xsm : Int32} {xfs xdc xfd xqu xwt xsi xtg xnw xfa xsg xnn xtk xrl bop bcl bin bsk bme bli bou xnf xfm xfl xfh xou xem xel : Nat → Int32}
variable {ypl ynd ymd ynh ylv ybt ydp yst yot yen : Int32} {yow yma yil ynu ynn yfa yvm yvl yvh ypu : Nat → Int32}
variable {d s np : Nat} {ou : Nat → Int32} {tg nw : Nat → Option Nat} {N : Nat → Nat} {nf : Nat → Int32 → Option Nat}
/-- a row's class is the old one -/
theorem sx_rowClass {post : Int32 → SX → Prop} {e b : Nat} {o : Option Nat} {x : Option Nat} (h10 : nc ≤ 10) (hb : b < 720) (HX : ∀ c, c < nc → xnw c = oI (nw c) ∧ ∀ k, nw c = some k → k < 128) (U : ∀ c d k, c < nc → d < nc → nw c = some k → nw d = some k → c = d) (hcl : bcl b = oI o) (ho : o = none ∧ x = none ∨ ∃ c k, c < nc ∧ nw c = some k ∧ o = some k ∧ x = some c)
    (p : wX_stepAnew_23 post (nI e) (nI b) (oI x) (nI nc) (nI nm) (nI nr) xnd xmd xnh xlv xq xs xbt xft (nI d) (nI s) xss (nI np) xtr xsm fc (oF pa) xfs ups (nF hm) (nF na) br (nF ln) (nF op) ic ii xdc xfd (nF rk) rc rn xqu xwt xsi xtg xnw xfa xsg xnn xtk xrl bop bcl bin bsk bme bli bou xnf xfm xfl xfh ou xem xel) : wpX_stepAnew post ((nI nc), (nI nm), (nI nr), xnd, xmd, xnh, xlv, xq, xs, xbt, xft, (nI d), (nI s), xss, (nI np), xtr, xsm, fc, (oF pa), xfs, ups, (nF hm), (nF na), br, (nF ln), (nF op), ic, ii, xdc, xfd, (nF rk), rc, rn, xqu, xwt, xsi, xtg, xnw, xfa, xsg, xnn, xtk, xrl, bop, bcl, bin, bsk, bme, bli, bou, xnf, xfm, xfl, xfh, ou, xem, xel) (nI e) (nI b) := by
  have hv : vp_in (nI b) 720 := vp_in_nI hb (by decide)
  unfold wpX_stepAnew
  dsimp only
  rw [nI_clamp (n := b) (by omega), hcl]
  refine ⟨hv, ?_⟩
  rcases ho with ⟨e1, e2⟩ | ⟨c, k, c1, c2, e1, e2⟩
  · rw [e1]
    rw [e2] at p
    exact br_f (by decide) p
  · have hk := (HX c c1).2 k c2
    rw [e1, oI_s]
    refine br_t (nI_pos' (by omega)) ⟨hv, sx_oldClass h10 HX (by omega) ?_⟩
    rw [rl_ocE U c1 c2, ← e2]
    exact p
/-- an instruction that nothing is done in place of -/
theorem sx_stepH {post : Int32 → SX → Prop} {e m k l : Nat} {h : Option Nat} (C : sp_cls nc fc pa ups) (MM : sp_mth nc nm fc hm na ln br dc) (I : sp_ins nm ln op cl nn ic ii fs sc) (F : sp_fd nc pa fc ups hm dc fd) (W : sp_ok nc nm fc br ln op cl nn fd) (HX : ∀ c, c < nc → xnw c = oI (nw c) ∧ ∀ k, nw c = some k → k < 128) (U : ∀ c d k, c < nc → d < nc → nw c = some k → nw d = some k → c = d) (Hnf : sw_nf nc nm pa hm (xlv ||| xnh) N nf) (Hxnf : ∀ a n, a < nc → n < 32 → xnf (32 * a + n) = oI (nf a (nI n)))
    (hlvb : ∀ m, bt xlv m = true → br m = 0) (hm' : m < nm) (hk : k < ln m) (hnw : op (6 * m + k) ≠ 0 → op (6 * m + k) ≠ 5 → ∃ j, nw (cl (6 * m + k)) = some j) (htn : tg (6 * m + k) = none)
    (hcall : op (6 * m + k) = 2 ∨ op (6 * m + k) = 3 → ∀ g, fd (cl (6 * m + k)) (nn (6 * m + k)) = some g → N g < 32 ∧ xnn g = nI (N g) ∧ (op (6 * m + k) = 3 → bt xlv g = true ∧ nf (cl (6 * m + k)) (nI (N g)) = some g))
    (R : se_head ln op cl nn ii fd tg nw xnn m k (24 * m + l) bop bcl bin bsk bme bli bou) (hlb : l < 24) (hsk : se_sk ln op tg m k < 60) (h8 : e < 8) (hd : d ≤ 8) (h2 : xfl e = nI l) (h3 : xfh e = oI h) (hh : ∀ x, h = some x → x < nc) (hnp : np < 200)
    (pO : op (6 * m + k) = 0 → post (-1) ((nI nc), (nI nm), (nI nr), xnd, xmd, xnh, xlv, xq, xs, xbt, xft, (nI d), (nI s), xss, (nI (np + 1)), xtr, xsm, fc, (oF pa), xfs, ups, (nF hm), (nF na), br, (nF ln), (nF op), ic, ii, xdc, xfd, (nF rk), rc, rn, xqu, xwt, xsi, xtg, xnw, xfa, xsg, xnn, xtk, xrl, bop, bcl, bin, bsk, bme, bli, bou, xnf, xfm, (upd xfl e (nI (l + 1))), xfh, (upd ou np (sc (6 * m + k))), xem, xel)) (pN : op (6 * m + k) = 1 → post (-1) ((nI nc), (nI nm), (nI nr), xnd, xmd, xnh, xlv, xq, xs, xbt, xft, (nI d), (nI s), xss, (nI np), xtr, xsm, fc, (oF pa), xfs, ups, (nF hm), (nF na), br, (nF ln), (nF op), ic, ii, xdc, xfd, (nF rk), rc, rn, xqu, xwt, xsi, xtg, xnw, xfa, xsg, xnn, xtk, xrl, bop, bcl, bin, bsk, bme, bli, bou, xnf, xfm, (upd xfl e (nI (l + 1))), (upd xfh e (nI (cl (6 * m + k)))), ou, xem, xel)) (pM : op (6 * m + k) = 2 → rn_bel ups h (cl (6 * m + k)) = false → post 2 ((nI nc), (nI nm), (nI nr), xnd, xmd, xnh, xlv, xq, xs, xbt, xft, (nI d), (nI s), xss, (nI np), xtr, xsm, fc, (oF pa), xfs, ups, (nF hm), (nF na), br, (nF ln), (nF op), ic, ii, xdc, xfd, (nF rk), rc, rn, xqu, xwt, xsi, xtg, xnw, xfa, xsg, xnn, xtk, xrl, bop, bcl, bin, bsk, bme, bli, bou, xnf, xfm, xfl, xfh, ou, xem, xel))
    (p3 : (op (6 * m + k) = 2 ∧ rn_bel ups h (cl (6 * m + k)) = true ∨ op (6 * m + k) = 3) → rn_cN op cl nn fd nf N xlv h (6 * m + k) = none → post 3 ((nI nc), (nI nm), (nI nr), xnd, xmd, xnh, xlv, xq, xs, xbt, xft, (nI d), (nI s), xss, (nI np), xtr, xsm, fc, (oF pa), xfs, ups, (nF hm), (nF na), br, (nF ln), (nF op), ic, ii, xdc, xfd, (nF rk), rc, rn, xqu, xwt, xsi, xtg, xnw, xfa, xsg, xnn, xtk, xrl, bop, bcl, bin, bsk, bme, bli, bou, xnf, xfm, xfl, xfh, ou, xem, xel)) (p4 : (op (6 * m + k) = 2 ∧ rn_bel ups h (cl (6 * m + k)) = true ∨ op (6 * m + k) = 3) → ∀ g, rn_cN op cl nn fd nf N xlv h (6 * m + k) = some g → d = 8 → post 4 ((nI nc), (nI nm), (nI nr), xnd, xmd, xnh, xlv, xq, xs, xbt, xft, (nI d), (nI s), xss, (nI np), xtr, xsm, fc, (oF pa), xfs, ups, (nF hm), (nF na), br, (nF ln), (nF op), ic, ii, xdc, xfd, (nF rk), rc, rn, xqu, xwt, xsi, xtg, xnw, xfa, xsg, xnn, xtk, xrl, bop, bcl, bin, bsk, bme, bli, bou, xnf, xfm, xfl, xfh, ou, xem, xel))
    (p : (op (6 * m + k) = 2 ∧ rn_bel ups h (cl (6 * m + k)) = true ∨ op (6 * m + k) = 3) → ∀ g, rn_cN op cl nn fd nf N xlv h (6 * m + k) = some g → d < 8 → post (-1) ((nI nc), (nI nm), (nI nr), xnd, xmd, xnh, xlv, xq, xs, xbt, xft, (nI (d + 1)), (nI s), xss, (nI np), xtr, xsm, fc, (oF pa), xfs, ups, (nF hm), (nF na), br, (nF ln), (nF op), ic, ii, xdc, xfd, (nF rk), rc, rn, xqu, xwt, xsi, xtg, xnw, xfa, xsg, xnn, xtk, xrl, bop, bcl, bin, bsk, bme, bli, bou, xnf, (upd xfm d (nI g)), (upd xfl d (nI 0)), (upd xfh d (oI h)), ou, xem, xel))
    (pT : op (6 * m + k) = 4 → post (-1) ((nI nc), (nI nm), (nI nr), xnd, xmd, xnh, xlv, xq, xs, xbt, xft, (nI d), (nI s), xss, (nI np), xtr, xsm, fc, (oF pa), xfs, ups, (nF hm), (nF na), br, (nF ln), (nF op), ic, ii, xdc, xfd, (nF rk), rc, rn, xqu, xwt, xsi, xtg, xnw, xfa, xsg, xnn, xtk, xrl, bop, bcl, bin, bsk, bme, bli, bou, xnf, xfm, (upd xfl e (nI (l + if rn_bel ups h (cl (6 * m + k)) = true then 1 else 1 + se_sk ln op tg m k))), xfh, ou, xem, xel)) (pF : op (6 * m + k) = 5 → post 1 ((nI nc), (nI nm), (nI nr), xnd, xmd, xnh, xlv, xq, xs, xbt, xft, (nI d), (nI s), xss, (nI np), xtr, xsm, fc, (oF pa), xfs, ups, (nF hm), (nF na), br, (nF ln), (nF op), ic, ii, xdc, xfd, (nF rk), rc, rn, xqu, xwt, xsi, xtg, xnw, xfa, xsg, xnn, xtk, xrl, bop, bcl, bin, bsk, bme, bli, bou, xnf, xfm, xfl, xfh, ou, xem, xel)) : wpX_stepAnew post ((nI nc), (nI nm), (nI nr), xnd, xmd, xnh, xlv, xq, xs, xbt, xft, (nI d), (nI s), xss, (nI np), xtr, xsm, fc, (oF pa), xfs, ups, (nF hm), (nF na), br, (nF ln), (nF op), ic, ii, xdc, xfd, (nF rk), rc, rn, xqu, xwt, xsi, xtg, xnw, xfa, xsg, xnn, xtk, xrl, bop, bcl, bin, bsk, bme, bli, bou, xnf, xfm, xfl, xfh, ou, xem, xel) (nI e) (nI (24 * m + l)) := by
  have h10 := C.1
  have h30 := MM.1
  obtain ⟨n1, n2, n3, n4, n5, n6⟩ := I m k hm' hk
  have hcc := sp_okc W hm' hk
  have hff := sp_okf W hm' hk
  obtain ⟨R1, R2, R3, R4, R5, R6, R7, R8, R9⟩ := R
  rw [htn] at R1
  dsimp only at R1
  rw [if_neg (fun z => z.2 htn)] at R2
  have R4' := R4 htn
  have R5' := R5 htn
  generalize se_sk ln op tg m k = sk at *
  generalize hie : 6 * m + k = i at *
  have hb : 24 * m + l < 720 := by omega
  generalize 24 * m + l = b at *
  have hv : vp_in (nI e) 8 := vp_in_nI h8 (by decide)
  have hvb : vp_in (nI b) 720 := vp_in_nI hb (by decide)
  have hh10 : ∀ x, h = some x → x < 10 := fun x ex => by have := hh x ex; omega
  -- the class, old again
  have hcls : ∃ x : Option Nat, (se_hc op cl nw i = none ∧ x = none ∨ ∃ c j, c < nc ∧ nw c = some j ∧ se_hc op cl nw i = some j ∧ x = some c) ∧ (op i ≠ 0 → op i ≠ 5 → x = some (cl i)) ∧ (op i = 0 ∨ op i = 5 → x = none) := by
    by_cases h0 : op i = 0 ∨ op i = 5
    · exact ⟨none, Or.inl ⟨if_pos h0, rfl⟩, fun a b => absurd h0 (fun z => z.elim a b), fun _ => rfl⟩
    · have a0 : op i ≠ 0 := fun z => h0 (Or.inl z)
      have a5 : op i ≠ 5 := fun z => h0 (Or.inr z)
      obtain ⟨j, hj⟩ := hnw a0 a5
      refine ⟨some (cl i), Or.inr ⟨cl i, j, hcc a0 a5, hj, ?_, rfl⟩, fun _ _ => rfl, fun z => absurd z h0⟩
      unfold se_hc; rw [if_neg h0]; exact hj
  obtain ⟨x, hx1, hx2, hx3⟩ := hcls
  refine sx_rowClass h10 hb HX U R2 hx1 ?_
  have hpl : op i = 0 ∨ op i = 1 ∨ op i = 5 → ∀ v, (op i = 0 → v = sc i) → wX_stepAnew_229 post (nI e) (nI b) (oI x) v (nI nc) (nI nm) (nI nr) xnd xmd xnh xlv xq xs xbt xft (nI d) (nI s) xss (nI np) xtr xsm fc (oF pa) xfs ups (nF hm) (nF na) br (nF ln) (nF op) ic ii xdc xfd (nF rk) rc rn xqu xwt xsi xtg xnw xfa xsg xnn xtk xrl bop bcl bin bsk bme bli bou xnf xfm xfl xfh ou xem xel := by
    intro o015 v hv'
    unfold wX_stepAnew_229
    rw [nI_clamp (n := b) (by omega), R1]
    refine ⟨hvb, sx_plain h8 (by omega) h2 (by omega) hnp pF (fun o0 => ?_) (fun o5 o0 => ?_)⟩
    · have := pO o0
      rw [← hv' o0] at this; exact this
    · exact ⟨x, rfl, fun y ey => by rw [hx2 o0 o5] at ey; cases ey; exact (n4 o0 o5).2.2, by rw [hx2 o0 o5]; exact pN (by omega)⟩
  unfold wX_stepAnew_23
  rw [nI_clamp (n := e) (by omega), nI_clamp (n := b) (by omega), h3, R1]
  refine ⟨hv, nm_e ⟨hvb, nm_e ⟨hvb, nm_e (pk_lt (op i) 2 (fun o => hpl (by omega) _ (fun o0 => ?_)) (fun o => pk_lt 6 (op i) (fun o' => by omega) (fun _ => ?_)))⟩⟩⟩
  · rw [R4' (by omega) (by omega)]; exact (n2 o0).2
  · refine pk_eq (op i) 2 (fun o2 => ?_) (fun o2 => pk_eq (op i) 3 (fun o3 => ?_) (fun o3 => pk_eq (op i) 4 (fun o4 => ⟨hv, ?_⟩) (fun o4 => pk_eq (op i) 5 (fun o5 => hpl (by omega) _ (fun z => by omega)) (fun o5 => by omega))))
    · obtain ⟨g, hg, _⟩ := hff (Or.inl o2)
      obtain ⟨g1, g2, _⟩ := hcall (Or.inl o2) g hg
      have hc10 := (n4 (by omega) (by omega)).2.2
      rw [hx2 (by omega) (by omega)]
      refine sx_isBelow hh10 (by omega) (fun hb => pM o2 hb) (fun hb => ?_)
      cases h with
      | none => cases hb
      | some y =>
        have hy := hh y rfl
        have ec : rn_cN op cl nn fd nf N xlv (some y) i = rn_lv xlv (nf y (nI (N g))) := by unfold rn_cN; rw [if_neg (by omega), hg]; rfl
        rw [R5' (Or.inl o2) g hg, g2, oI_s, sd_x32, nI_add, nI_clamp (n := 32 * y + N g) (by omega), Hxnf y (N g) hy g1]
        refine ⟨vp_in_nI (by omega) (by decide), nm_e ?_⟩
        have henter : ∀ o, rn_lv xlv (nf y (nI (N g))) = o → wX_stepAnew_127 post (nI y) (oI o) (nI nc) (nI nm) (nI nr) xnd xmd xnh xlv xq xs xbt xft (nI d) (nI s) xss (nI np) xtr xsm fc (oF pa) xfs ups (nF hm) (nF na) br (nF ln) (nF op) ic ii xdc xfd (nF rk) rc rn xqu xwt xsi xtg xnw xfa xsg xnn xtk xrl bop bcl bin bsk bme bli bou xnf xfm xfl xfh ou xem xel := by
          intro o eo
          have hgo : rn_go br o = o := by
            cases o with
            | none => rfl
            | some z => exact if_pos (hlvb z (rn_lvI eo).2)
          unfold wX_stepAnew_127
          exact sx_enter (h := some y) hd (fun z ez => by
            rw [ez] at eo
            have := sw_nfb C Hnf y _ z hy (rn_lvI eo).1
            omega) hh10 (fun en => p3 (Or.inl ⟨o2, hb⟩) (ec.trans (eo.trans (hgo.symm.trans en)))) (fun z ez h8 => p4 (Or.inl ⟨o2, hb⟩) z (ec.trans (eo.trans (hgo.symm.trans ez))) h8) (fun z ez h8 => p (Or.inl ⟨o2, hb⟩) z (ec.trans (eo.trans (hgo.symm.trans ez))) h8)
        cases ef : nf y (nI (N g)) with
        | none =>
          rw [ef] at henter
          exact br_t (by decide) (henter none rfl)
        | some z =>
          rw [ef] at henter
          have hz := sw_nfb C Hnf y _ z hy ef
          rw [oI_s]
          exact br_f (nI_pos (by omega)) (xh_b (by omega) (fun hlz => henter none (if_neg (by rw [hlz]; decide))) (fun hlz => henter (some z) (if_pos hlz)))
    · obtain ⟨g, hg, _⟩ := hff (Or.inr o3)
      obtain ⟨g1, g2, g3⟩ := hcall (Or.inr o3) g hg
      obtain ⟨g4, g5⟩ := g3 o3
      have hc := hcc (by omega) (by omega)
      have hgm := (sp_sound C MM F _ _ g hc hg).1
      have ec : rn_cN op cl nn fd nf N xlv h i = some g := by unfold rn_cN; rw [if_pos o3, hg]; show rn_lv xlv (nf (cl i) (nI (N g))) = _; rw [g5]; exact if_pos g4
      rw [hx2 (by omega) (by omega), R5' (Or.inr o3) g hg, g2, oI_s, sd_x32, nI_add, nI_clamp (n := 32 * cl i + N g) (by omega), Hxnf (cl i) (N g) hc g1, g5]
      refine ⟨vp_in_nI (by omega) (by decide), ?_⟩
      have hgo : rn_go br (some g) = some g := if_pos (hlvb g g4)
      exact sx_enter hd (fun z ez => by cases ez; omega) hh10 (fun en => by rw [hgo] at en; cases en) (fun z ez h8 => by rw [hgo] at ez; cases ez; exact p4 (Or.inr o3) g ec h8) (fun z ez h8 => by rw [hgo] at ez; cases ez; exact p (Or.inr o3) g ec h8)
    · have hc10 := (n4 (by omega) (by omega)).2.2
      have hp := pT o4
      rw [hx2 (by omega) (by omega)]
      refine sx_isBelow hh10 (by omega) (fun hb => ⟨hvb, hv, ?_⟩) (fun hb => ⟨hv, ?_⟩)
      · rw [if_neg (by rw [hb]; decide)] at hp
        rw [h2, R6, sd_1a, nI_add, sd_vbb (by omega)]
        exact nm_e hp
      · rw [if_pos hb] at hp
        rw [h2, nI_1, sd_vbb (by omega)]
        exact nm_e hp
/-- an instruction in whose place a method is done -/
theorem sx_stepE {post : Int32 → SX → Prop} {e m k l t : Nat} {h : Option Nat} (C : sp_cls nc fc pa ups) (W : sp_ok nc nm fc br ln op cl nn fd) (h30 : nm ≤ 30) (HX : ∀ c, c < nc → xnw c = oI (nw c) ∧ ∀ k, nw c = some k → k < 128) (U : ∀ c d k, c < nc → d < nc → nw c = some k → nw d = some k → c = d)
    (hm' : m < nm) (hk : k < ln m) (hnw : op (6 * m + k) = 2 → ∃ j, nw (cl (6 * m + k)) = some j) (ht : tg (6 * m + k) = some t) (o23 : op (6 * m + k) = 2 ∨ op (6 * m + k) = 3)
    (R : se_head ln op cl nn ii fd tg nw xnn m k (24 * m + l) bop bcl bin bsk bme bli bou) (hlb : l < 24) (h8 : e < 8) (hd : d ≤ 8) (h2 : xfl e = nI l) (h3 : xfh e = oI h) (hh : ∀ x, h = some x → x < nc)
    (pM : op (6 * m + k) = 2 → rn_bel ups h (cl (6 * m + k)) = false → post 2 ((nI nc), (nI nm), (nI nr), xnd, xmd, xnh, xlv, xq, xs, xbt, xft, (nI d), (nI s), xss, (nI np), xtr, xsm, fc, (oF pa), xfs, ups, (nF hm), (nF na), br, (nF ln), (nF op), ic, ii, xdc, xfd, (nF rk), rc, rn, xqu, xwt, xsi, xtg, xnw, xfa, xsg, xnn, xtk, xrl, bop, bcl, bin, bsk, bme, bli, bou, xnf, xfm, xfl, xfh, ou, xem, xel)) (p4 : (op (6 * m + k) = 2 ∧ rn_bel ups h (cl (6 * m + k)) = true ∨ op (6 * m + k) = 3) → d = 8 → post 4 ((nI nc), (nI nm), (nI nr), xnd, xmd, xnh, xlv, xq, xs, xbt, xft, (nI d), (nI s), xss, (nI np), xtr, xsm, fc, (oF pa), xfs, ups, (nF hm), (nF na), br, (nF ln), (nF op), ic, ii, xdc, xfd, (nF rk), rc, rn, xqu, xwt, xsi, xtg, xnw, xfa, xsg, xnn, xtk, xrl, bop, bcl, bin, bsk, bme, bli, bou, xnf, xfm, xfl, xfh, ou, xem, xel))
    (p : (op (6 * m + k) = 2 ∧ rn_bel ups h (cl (6 * m + k)) = true ∨ op (6 * m + k) = 3) → d < 8 → post (-1) ((nI nc), (nI nm), (nI nr), xnd, xmd, xnh, xlv, xq, xs, xbt, xft, (nI d), (nI s), xss, (nI np), xtr, xsm, fc, (oF pa), xfs, ups, (nF hm), (nF na), br, (nF ln), (nF op), ic, ii, xdc, xfd, (nF rk), rc, rn, xqu, xwt, xsi, xtg, xnw, xfa, xsg, xnn, xtk, xrl, bop, bcl, bin, bsk, bme, bli, bou, xnf, xfm, (upd xfl e (nI (l + 1))), xfh, ou, xem, xel)) : wpX_stepAnew post ((nI nc), (nI nm), (nI nr), xnd, xmd, xnh, xlv, xq, xs, xbt, xft, (nI d), (nI s), xss, (nI np), xtr, xsm, fc, (oF pa), xfs, ups, (nF hm), (nF na), br, (nF ln), (nF op), ic, ii, xdc, xfd, (nF rk), rc, rn, xqu, xwt, xsi, xtg, xnw, xfa, xsg, xnn, xtk, xrl, bop, bcl, bin, bsk, bme, bli, bou, xnf, xfm, xfl, xfh, ou, xem, xel) (nI e) (nI (24 * m + l)) := by
  have h10 := C.1
  have hcc := sp_okc W hm' hk (by omega) (by omega)
  obtain ⟨R1, R2, R3, R4, R5, R6, R7, R8, R9⟩ := R
  rw [ht] at R1
  dsimp only at R1
  generalize hie : 6 * m + k = i at *
  have hb : 24 * m + l < 720 := by omega
  generalize 24 * m + l = b at *
  have hv : vp_in (nI e) 8 := vp_in_nI h8 (by decide)
  have hvb : vp_in (nI b) 720 := vp_in_nI hb (by decide)
  have hh10 : ∀ x, h = some x → x < 10 := fun x ex => by have := hh x ex; omega
  have h205 : (op i = 2 ∧ rn_bel ups h (cl i) = true ∨ op i = 3) → wX_stepAnew_205 post (nI e) (nI nc) (nI nm) (nI nr) xnd xmd xnh xlv xq xs xbt xft (nI d) (nI s) xss (nI np) xtr xsm fc (oF pa) xfs ups (nF hm) (nF na) br (nF ln) (nF op) ic ii xdc xfd (nF rk) rc rn xqu xwt xsi xtg xnw xfa xsg xnn xtk xrl bop bcl bin bsk bme bli bou xnf xfm xfl xfh ou xem xel := by
    intro hh'
    unfold wX_stepAnew_205
    rw [nI_clamp (n := e) (by omega), h2, nI_1, sd_vbb (by omega)]
    exact pk_eq d 8 (fun z => p4 hh' z) (fun z => ⟨hv, hv, nm_e (p hh' (by omega))⟩)
  have h23 : ∀ x : Option Nat, (op i = 2 → x = some (cl i)) → (op i = 3 → x = none) → wX_stepAnew_23 post (nI e) (nI b) (oI x) (nI nc) (nI nm) (nI nr) xnd xmd xnh xlv xq xs xbt xft (nI d) (nI s) xss (nI np) xtr xsm fc (oF pa) xfs ups (nF hm) (nF na) br (nF ln) (nF op) ic ii xdc xfd (nF rk) rc rn xqu xwt xsi xtg xnw xfa xsg xnn xtk xrl bop bcl bin bsk bme bli bou xnf xfm xfl xfh ou xem xel := by
    intro x hx2 hx3
    unfold wX_stepAnew_23
    rw [nI_clamp (n := e) (by omega), nI_clamp (n := b) (by omega), h3, R1]
    refine ⟨hv, nm_e ⟨hvb, nm_e ⟨hvb, nm_e (pk_lt 6 2 (fun o => by omega) (fun o => pk_lt 6 6 (fun o' => by omega) (fun _ => pk_eq 6 2 (fun z => by omega) (fun _ => pk_eq 6 3 (fun z => by omega) (fun _ => pk_eq 6 4 (fun z => by omega) (fun _ => pk_eq 6 5 (fun z => by omega) (fun _ => pk_eq 6 6 (fun _ => ?_) (fun z => by omega))))))))⟩⟩⟩
    rcases o23 with o2 | o3
    · rw [hx2 o2, oI_s]
      exact br_f (nI_pos (by omega)) (sx_isBelow hh10 (by omega) (fun hb => pM o2 hb) (fun hb => h205 (Or.inl ⟨o2, hb⟩)))
    · rw [hx3 o3]
      exact br_t (by decide) (h205 (Or.inr o3))
  rcases o23 with o2 | o3
  · obtain ⟨j, hj⟩ := hnw o2
    rw [if_neg (by omega)] at R2
    refine sx_rowClass (x := some (cl i)) h10 hb HX U R2 (Or.inr ⟨cl i, j, hcc, hj, ?_, rfl⟩) (h23 _ (fun _ => rfl) (fun z => by omega))
    unfold se_hc; rw [if_neg (by omega)]; exact hj
  · rw [if_pos ⟨o3, by rw [ht]; simp⟩] at R2
    exact sx_rowClass (x := none) h10 hb HX U R2 (Or.inl ⟨rfl, rfl⟩) (h23 _ (fun z => by omega) (fun _ => rfl))
/-- an instruction of a method that is done in place of one -/
theorem sx_stepI {post : Int32 → SX → Prop} {e t j k m l : Nat} (h10 : nc ≤ 10) (HX : ∀ c, c < nc → xnw c = oI (nw c) ∧ ∀ k, nw c = some k → k < 128) (U : ∀ c d k, c < nc → d < nc → nw c = some k → nw d = some k → c = d) (I : sp_in1 (op (6 * t + j)) (cl (6 * t + j)) (nn (6 * t + j)) (ic (6 * t + j)) (ii (6 * t + j)) (fs (6 * t + j)) (sc (6 * t + j))) (o05 : op (6 * t + j) = 0 ∨ op (6 * t + j) = 5)
    (R : se_inn op ii t j k (24 * m + l) bop bcl bin bme bli bou) (hm' : m < 30) (hlb : l < 24) (h8 : e < 8) (h2 : xfl e = nI l) (hnp : np < 200)
    (pO : op (6 * t + j) = 0 → post (-1) ((nI nc), (nI nm), (nI nr), xnd, xmd, xnh, xlv, xq, xs, xbt, xft, (nI d), (nI s), xss, (nI (np + 1)), xtr, xsm, fc, (oF pa), xfs, ups, (nF hm), (nF na), br, (nF ln), (nF op), ic, ii, xdc, xfd, (nF rk), rc, rn, xqu, xwt, xsi, xtg, xnw, xfa, xsg, xnn, xtk, xrl, bop, bcl, bin, bsk, bme, bli, bou, xnf, xfm, (upd xfl e (nI (l + 1))), xfh, (upd ou np (sc (6 * t + j))), xem, xel)) (pF : op (6 * t + j) = 5 → post 1 ((nI nc), (nI nm), (nI nr), xnd, xmd, xnh, xlv, xq, xs, xbt, xft, (nI d), (nI s), xss, (nI np), xtr, xsm, fc, (oF pa), xfs, ups, (nF hm), (nF na), br, (nF ln), (nF op), ic, ii, xdc, xfd, (nF rk), rc, rn, xqu, xwt, xsi, xtg, xnw, xfa, xsg, xnn, xtk, xrl, bop, bcl, bin, bsk, bme, bli, bou, xnf, xfm, xfl, xfh, ou, xem, xel)) : wpX_stepAnew post ((nI nc), (nI nm), (nI nr), xnd, xmd, xnh, xlv, xq, xs, xbt, xft, (nI d), (nI s), xss, (nI np), xtr, xsm, fc, (oF pa), xfs, ups, (nF hm), (nF na), br, (nF ln), (nF op), ic, ii, xdc, xfd, (nF rk), rc, rn, xqu, xwt, xsi, xtg, xnw, xfa, xsg, xnn, xtk, xrl, bop, bcl, bin, bsk, bme, bli, bou, xnf, xfm, xfl, xfh, ou, xem, xel) (nI e) (nI (24 * m + l)) := by
  obtain ⟨n1, n2, n3, n4, n5, n6⟩ := I
  obtain ⟨R1, R2, R3, R4, R5, R6⟩ := R
  generalize 6 * t + j = i at *
  have hb : 24 * m + l < 720 := by omega
  generalize 24 * m + l = b at *
  have hv : vp_in (nI e) 8 := vp_in_nI h8 (by decide)
  have hvb : vp_in (nI b) 720 := vp_in_nI hb (by decide)
  refine sx_rowClass (x := none) h10 hb HX U (o := none) R2 (Or.inl ⟨rfl, rfl⟩) ?_
  have hpl : ∀ v, (op i = 0 → v = sc i) → wX_stepAnew_229 post (nI e) (nI b) (oI none) v (nI nc) (nI nm) (nI nr) xnd xmd xnh xlv xq xs xbt xft (nI d) (nI s) xss (nI np) xtr xsm fc (oF pa) xfs ups (nF hm) (nF na) br (nF ln) (nF op) ic ii xdc xfd (nF rk) rc rn xqu xwt xsi xtg xnw xfa xsg xnn xtk xrl bop bcl bin bsk bme bli bou xnf xfm xfl xfh ou xem xel := by
    intro v hv'
    unfold wX_stepAnew_229
    rw [nI_clamp (n := b) (by omega), R1]
    refine ⟨hvb, sx_plain h8 (by omega) h2 (by omega) hnp pF (fun o0 => ?_) (fun o5 o0 => absurd o05 (fun z => z.elim o0 o5))⟩
    have := pO o0
    rw [← hv' o0] at this; exact this
  have hv0 : op i = 0 → bin b = sc i := fun o0 => by rw [R3]; exact (n2 o0).2
  unfold wX_stepAnew_23
  rw [nI_clamp (n := e) (by omega), nI_clamp (n := b) (by omega), R1]
  exact ⟨hv, nm_e ⟨hvb, nm_e ⟨hvb, nm_e (pk_lt (op i) 2 (fun o => hpl _ hv0) (fun o => pk_lt 6 (op i) (fun o' => by omega) (fun _ => pk_eq (op i) 2 (fun z => by omega) (fun _ => pk_eq (op i) 3 (fun z => by omega) (fun _ => pk_eq (op i) 4 (fun z => by omega) (fun _ => pk_eq (op i) 5 (fun z => hpl _ hv0) (fun z => by omega)))))))⟩⟩⟩
end
end
section
/-! runs: the program as it is built; the reference's calls, where a run ended -/
section
variable {nc nm nr : Nat} {pa : Nat → Option Nat} {hm na ln op rk cl nn : Nat → Nat} {fc ups br ic ii fs sc rc rn : Nat → Int32} {dc fd : Nat → Nat → Option Nat}
variable {xnd xmd xnh xlv xq xs xbt xft xdp xst xss xpt xtr xsm : Int32} {xfs xdc xfd xqu xwt xsi xtg xnw xfa xsg xnn xtk xrl bop bcl bin bsk bme bli bou xnf xfm xfl xfh xou xem xel : Nat → Int32}
variable {ypl ynd ymd ynh ylv ybt ydp yst yot yen : Int32} {yow yma yil ynu ynn yfa yvm yvl yvh ypu : Nat → Int32}
variable {d s np : Nat} {ou : Nat → Int32} {tg nw : Nat → Option Nat} {N : Nat → Nat} {nf : Nat → Int32 → Option Nat} {M L P : Nat → Nat} {H : Nat → Option Nat}
theorem sy_callI {post : SY → Prop} {e i c t : Nat} {h : Option Nat} {hx : Int32} (h8 : e < 8) (hi : i < 180) (hc : c < 10) (ht : yil i = nI t) (ht30 : t < 30) (hcx : hx = nI c ∨ hx = -1 ∧ fs i = nI c) (h3 : yvh e = oI h)
    (p4 : e + 1 = 8 → post ((nI nc), (nI nm), (nI nr), ypl, ynd, ymd, ynh, ylv, ybt, (nI (e + 1)), (nI s), (nI np), 4, fc, br, (oF pa), ups, yow, yma, (nF hm), (nF na), (nF ln), (nF op), fs, sc, (nF rk), rc, rn, yil, ynu, ynn, yfa, yvm, yvl, yvh, ou)) (p : e + 1 < 8 → post ((nI nc), (nI nm), (nI nr), ypl, ynd, ymd, ynh, ylv, ybt, (nI (e + 2)), (nI s), (nI np), yen, fc, br, (oF pa), ups, yow, yma, (nF hm), (nF na), (nF ln), (nF op), fs, sc, (nF rk), rc, rn, yil, ynu, ynn, yfa, (upd yvm (e + 1) (nI t)), (upd yvl (e + 1) (nI 0)), (upd yvh (e + 1) (oI h)), ou)) : wpY_call post ((nI nc), (nI nm), (nI nr), ypl, ynd, ymd, ynh, ylv, ybt, (nI (e + 1)), (nI s), (nI np), yen, fc, br, (oF pa), ups, yow, yma, (nF hm), (nF na), (nF ln), (nF op), fs, sc, (nF rk), rc, rn, yil, ynu, ynn, yfa, yvm, yvl, yvh, ou) 1 (nI i) hx := by
  have hvi : vp_in (nI i) 180 := vp_in_nI hi (by decide)
  have h14 : wY_call_14 post 1 (nI i) (nI c) (nI nc) (nI nm) (nI nr) ypl ynd ymd ynh ylv ybt (nI (e + 1)) (nI s) (nI np) yen fc br (oF pa) ups yow yma (nF hm) (nF na) (nF ln) (nF op) fs sc (nF rk) rc rn yil ynu ynn yfa yvm yvl yvh ou := by
    unfold wY_call_14 wY_call_30 wY_call_71
    rw [nI_clamp (n := i) (by omega), ht]
    exact br_f (by decide) ⟨hvi, hvi, nm_e (br_f (by decide) (br_t (nI_pos' (by omega)) (br_t (nI_pos' (by omega)) (sy_call87 (o := some t) h8 h3 (fun g eg => by cases eg; exact ht30) (fun z => by cases z) (fun g eg z => p4 z) (fun g eg z => by cases eg; exact p z)))))⟩
  unfold wpY_call
  dsimp only
  rw [nI_clamp (n := i) (by omega)]
  rcases hcx with e1 | ⟨e1, e2⟩
  · rw [e1]; exact br_t (nI_pos' (by omega)) h14
  · rw [e1, e2]; exact br_f (by decide) ⟨hvi, h14⟩
theorem sy_callN {post : SY → Prop} {e i c g : Nat} {h : Option Nat} {hx : Int32} (C : sp_cls nc fc pa ups) (MM : sp_mth nc nm fc hm na ln br dc) (F : sp_fd nc pa fc ups hm dc fd) (Hnf : sw_nf nc nm pa hm (ynh ||| ylv) N nf) (Y : ∀ m, m < nm → bt (ynh ||| ylv) m = true → ∃ r, r < nm ∧ yfa m = nI r ∧ ynn r = nI (N m)) (h8 : e < 8) (hi : i < 180) (hc : c < nc) (hcl : cl i < nc) (hn : nn i < 10) (hsc : sc i = nI (nn i)) (hfs : fs i = nI (cl i)) (hg : fd (cl i) (nn i) = some g) (hgs : bt (ynh ||| ylv) g = true) (ht : yil i = -1) (hcx : hx = nI c ∨ hx = -1 ∧ fs i = nI c) (h3 : yvh e = oI h)
    (p3 : rn_lv ylv (nf c (nI (N g))) = none → post ((nI nc), (nI nm), (nI nr), ypl, ynd, ymd, ynh, ylv, ybt, (nI (e + 1)), (nI s), (nI np), 3, fc, br, (oF pa), ups, yow, yma, (nF hm), (nF na), (nF ln), (nF op), fs, sc, (nF rk), rc, rn, yil, ynu, ynn, yfa, yvm, yvl, yvh, ou)) (p4 : ∀ g', rn_lv ylv (nf c (nI (N g))) = some g' → e + 1 = 8 → post ((nI nc), (nI nm), (nI nr), ypl, ynd, ymd, ynh, ylv, ybt, (nI (e + 1)), (nI s), (nI np), 4, fc, br, (oF pa), ups, yow, yma, (nF hm), (nF na), (nF ln), (nF op), fs, sc, (nF rk), rc, rn, yil, ynu, ynn, yfa, yvm, yvl, yvh, ou))
    (p : ∀ g', rn_lv ylv (nf c (nI (N g))) = some g' → e + 1 < 8 → post ((nI nc), (nI nm), (nI nr), ypl, ynd, ymd, ynh, ylv, ybt, (nI (e + 2)), (nI s), (nI np), yen, fc, br, (oF pa), ups, yow, yma, (nF hm), (nF na), (nF ln), (nF op), fs, sc, (nF rk), rc, rn, yil, ynu, ynn, yfa, (upd yvm (e + 1) (nI g')), (upd yvl (e + 1) (nI 0)), (upd yvh (e + 1) (oI h)), ou)) : wpY_call post ((nI nc), (nI nm), (nI nr), ypl, ynd, ymd, ynh, ylv, ybt, (nI (e + 1)), (nI s), (nI np), yen, fc, br, (oF pa), ups, yow, yma, (nF hm), (nF na), (nF ln), (nF op), fs, sc, (nF rk), rc, rn, yil, ynu, ynn, yfa, yvm, yvl, yvh, ou) 1 (nI i) hx := by
  have h10 := C.1
  have h30 := MM.1
  have hvi : vp_in (nI i) 180 := vp_in_nI hi (by decide)
  have hgm := (sp_sound C MM F _ _ g hcl hg).1
  have h14 : wY_call_14 post 1 (nI i) (nI c) (nI nc) (nI nm) (nI nr) ypl ynd ymd ynh ylv ybt (nI (e + 1)) (nI s) (nI np) yen fc br (oF pa) ups yow yma (nF hm) (nF na) (nF ln) (nF op) fs sc (nF rk) rc rn yil ynu ynn yfa yvm yvl yvh ou := by
    unfold wY_call_14 wY_call_30
    rw [nI_clamp (n := i) (by omega), ht, hsc, hfs]
    refine br_f (by decide) ⟨hvi, hvi, nm_e (br_f (by decide) (br_f (by decide) ⟨hvi, sy_finds C MM F hcl hn ?_⟩))⟩
    rw [hg, oI_s]
    refine sy_nameOf h30 Y hgm hgs ?_
    unfold wY_call_71
    refine br_f (by decide) ?_
    unfold wpY_found
    dsimp only
    refine br_f (by decide) (sy_findsNew C MM Hnf Y hc ?_)
    unfold wY_found_19
    have h87 : ∀ o, rn_lv ylv (nf c (nI (N g))) = o → wY_call_87 post (oI o) (nI nc) (nI nm) (nI nr) ypl ynd ymd ynh ylv ybt (nI (e + 1)) (nI s) (nI np) yen fc br (oF pa) ups yow yma (nF hm) (nF na) (nF ln) (nF op) fs sc (nF rk) rc rn yil ynu ynn yfa yvm yvl yvh ou := fun o eo =>
      sy_call87 h8 h3 (fun g' eg => by
        rw [eg] at eo
        have := sw_nfb C Hnf c _ g' hc (rn_lvI eo).1
        omega) (fun en => p3 (eo.trans en)) (fun g' eg h8 => p4 g' (eo.trans eg) h8) (fun g' eg h8 => p g' (eo.trans eg) h8)
    cases ef : nf c (nI (N g)) with
    | none =>
      rw [ef] at h87
      exact br_t (by decide) (h87 none rfl)
    | some x =>
      rw [ef] at h87
      have hxm := sw_nfb C Hnf c _ x hc ef
      rw [oI_s]
      exact br_f (nI_pos (by omega)) (br_f (by decide) (yh_b (by omega) (fun hb => h87 none (if_neg (by rw [hb]; decide))) (fun hb => h87 (some x) (if_pos hb))))
  unfold wpY_call
  dsimp only
  rw [nI_clamp (n := i) (by omega)]
  rcases hcx with e1 | ⟨e1, e2⟩
  · rw [e1]; exact br_t (nI_pos' (by omega)) h14
  · rw [e1, e2]; exact br_f (by decide) ⟨hvi, h14⟩
/-- an instruction's row, for a trace -/
def rn_tr (bme bli bou : Nat → Int32) (m l k : Nat) : Prop := bme (24 * m + l) = nI m ∧ bli (24 * m + l) = nI k ∧ bou (24 * m + l) = -1
theorem sx_note12N {post : SX → Prop} {D J : Nat} (hJ : J ≤ 8) (hD : D ≤ 8) (hJD : J ≤ D) (hsm : ¬ xsm = 0) (hF : ∀ j, j < J → xfm j = nI (M j) ∧ xfl j = nI (P j) ∧ M j < 30 ∧ P j < 24 ∧ L j < 24 ∧ rn_tr bme bli bou (M j) (P j) (L j)) {em0 el0 : Nat → Int32}
    (K : post ((nI nc), (nI nm), (nI nr), xnd, xmd, xnh, xlv, xq, xs, xbt, xft, (nI d), (nI s), xss, (nI np), (nI D), xsm, fc, (oF pa), xfs, ups, (nF hm), (nF na), br, (nF ln), (nF op), ic, ii, xdc, xfd, (nF rk), rc, rn, xqu, xwt, xsi, xtg, xnw, xfa, xsg, xnn, xtk, xrl, bop, bcl, bin, bsk, bme, bli, bou, xnf, xfm, xfl, xfh, ou, (rn_em em0 M D 0), (rn_em el0 L D 0))) :
    ∀ fuel j, j ≤ J → j < fuel → wX_note_12 post fuel (nI j + (-1)) (nI nc) (nI nm) (nI nr) xnd xmd xnh xlv xq xs xbt xft (nI d) (nI s) xss (nI np) (nI (D - j)) xsm fc (oF pa) xfs ups (nF hm) (nF na) br (nF ln) (nF op) ic ii xdc xfd (nF rk) rc rn xqu xwt xsi xtg xnw xfa xsg xnn xtk xrl bop bcl bin bsk bme bli bou xnf xfm xfl xfh ou (rn_em em0 M D j) (rn_em el0 L D j) := by
  intro fuel
  induction fuel with
  | zero => intro j _ h; omega
  | succ f ih =>
    intro j hj hf
    rw [wX_note_12]
    cases j with
    | zero => exact br_t (by decide) K
    | succ j =>
      obtain ⟨f1, f2, f3, f4, f5, t1, t2, t3⟩ := hF j (by omega)
      have hv : vp_in (nI j) 8 := vp_in_nI (by omega) (by decide)
      have hvb : vp_in (nI (24 * M j + P j)) 720 := vp_in_nI (by omega) (by decide)
      dsimp only
      rw [pk_m1, nI_clamp (n := j) (by omega), f1, f2]
      refine br_f (nI_pos (by omega)) ⟨hv, nm_e ⟨hv, nm_r ((congrArg (· + nI (P j)) (sd_x24 (M j))).trans (nI_add _ _)) (br_f hsm ⟨hvb, hvb, ?_⟩)⟩⟩
      rw [nI_clamp (n := 24 * M j + P j) (by omega), t1, t2]
      refine sx_trail (by omega) (by omega) (by omega) ?_
      have e1 : D - (j + 1) + 1 = D - j := by omega
      rw [rn_em_u em0 M (by omega), rn_em_u el0 L (by omega), e1]
      dsimp only
      rw [t3]
      exact ⟨hvb, br_t (by decide) (nm_e (ih j (by omega) (by omega)))⟩
theorem sx_noteN {post : SX → Prop} (hd : d ≤ 8) (hsm : ¬ xsm = 0) (hF : ∀ j, j < d → xfm j = nI (M j) ∧ xfl j = nI (P j) ∧ M j < 30 ∧ P j < 24 ∧ L j < 24 ∧ rn_tr bme bli bou (M j) (P j) (L j))
    (K : post ((nI nc), (nI nm), (nI nr), xnd, xmd, xnh, xlv, xq, xs, xbt, xft, (nI d), (nI s), xss, (nI np), (nI d), xsm, fc, (oF pa), xfs, ups, (nF hm), (nF na), br, (nF ln), (nF op), ic, ii, xdc, xfd, (nF rk), rc, rn, xqu, xwt, xsi, xtg, xnw, xfa, xsg, xnn, xtk, xrl, bop, bcl, bin, bsk, bme, bli, bou, xnf, xfm, xfl, xfh, ou, (rn_em xem M d 0), (rn_em xel L d 0))) : wpX_note post ((nI nc), (nI nm), (nI nr), xnd, xmd, xnh, xlv, xq, xs, xbt, xft, (nI d), (nI s), xss, (nI np), xtr, xsm, fc, (oF pa), xfs, ups, (nF hm), (nF na), br, (nF ln), (nF op), ic, ii, xdc, xfd, (nF rk), rc, rn, xqu, xwt, xsi, xtg, xnw, xfa, xsg, xnn, xtk, xrl, bop, bcl, bin, bsk, bme, bli, bou, xnf, xfm, xfl, xfh, ou, xem, xel) := by
  have e : nI d - 1 = nI d + (-1) := by
    cases d with
    | zero => decide
    | succ d => rw [nI_pred, pk_m1]
  have key := sx_note12N (em0 := xem) (el0 := xel) hd hd (Nat.le_refl _) hsm hF K (d + 1) d (Nat.le_refl _) (by omega)
  rw [rn_em_0, rn_em_0, Nat.sub_self] at key
  unfold wpX_note
  dsimp only
  rw [e]
  exact nm_e ⟨d + 1, key⟩
/-- the innermost is done in place of an instruction -/
theorem sx_noteI {post : SX → Prop} {e l : Nat} (hd : e + 2 ≤ 8) (hsm : ¬ xsm = 0) (hF : ∀ j, j < e → xfm j = nI (M j) ∧ xfl j = nI (P j) ∧ M j < 30 ∧ P j < 24 ∧ L j < 24 ∧ rn_tr bme bli bou (M j) (P j) (L j))
    (h1 : xfm e = nI (M e)) (h2 : xfl e = nI l) (hm30 : M e < 30) (hl : l < 24) (hMt : M (e + 1) < 30) (hLt : L (e + 1) < 24) (hLe : L e < 24) (b1 : bme (24 * M e + l) = nI (M (e + 1))) (b2 : bli (24 * M e + l) = nI (L (e + 1))) (b3 : bou (24 * M e + l) = nI (L e))
    (K : post ((nI nc), (nI nm), (nI nr), xnd, xmd, xnh, xlv, xq, xs, xbt, xft, (nI (e + 1)), (nI s), xss, (nI np), (nI (e + 2)), xsm, fc, (oF pa), xfs, ups, (nF hm), (nF na), br, (nF ln), (nF op), ic, ii, xdc, xfd, (nF rk), rc, rn, xqu, xwt, xsi, xtg, xnw, xfa, xsg, xnn, xtk, xrl, bop, bcl, bin, bsk, bme, bli, bou, xnf, xfm, xfl, xfh, ou, (rn_em xem M (e + 2) 0), (rn_em xel L (e + 2) 0))) : wpX_note post ((nI nc), (nI nm), (nI nr), xnd, xmd, xnh, xlv, xq, xs, xbt, xft, (nI (e + 1)), (nI s), xss, (nI np), xtr, xsm, fc, (oF pa), xfs, ups, (nF hm), (nF na), br, (nF ln), (nF op), ic, ii, xdc, xfd, (nF rk), rc, rn, xqu, xwt, xsi, xtg, xnw, xfa, xsg, xnn, xtk, xrl, bop, bcl, bin, bsk, bme, bli, bou, xnf, xfm, xfl, xfh, ou, xem, xel) := by
  have key := sx_note12N (d := e + 1) (J := e) (em0 := xem) (el0 := xel) (by omega) hd (by omega) hsm hF K (e + 1) e (Nat.le_refl _) (by omega)
  have hv : vp_in (nI e) 8 := vp_in_nI (by omega) (by decide)
  have hvb : vp_in (nI (24 * M e + l)) 720 := vp_in_nI (by omega) (by decide)
  have hsub : e + 2 - e = 2 := by omega
  rw [hsub] at key
  unfold wpX_note
  dsimp only
  rw [nI_pred]
  refine nm_e ⟨e + 1 + 1, ?_⟩
  rw [wX_note_12]
  dsimp only
  rw [nI_clamp (n := e) (by omega), h1, h2]
  refine br_f (nI_pos (by omega)) ⟨hv, nm_e ⟨hv, nm_r ((congrArg (· + nI l) (sd_x24 (M e))).trans (nI_add _ _)) (br_f hsm ⟨hvb, hvb, ?_⟩)⟩⟩
  rw [nI_clamp (n := 24 * M e + l) (by omega), b1, b2]
  refine sx_trail (t := 0) (by omega) (by omega) (by omega) ?_
  dsimp only
  rw [b3]
  refine ⟨hvb, br_f (nI_pos (by omega)) ⟨hvb, sx_trail (t := 1) (by omega) (by omega) (by omega) (nm_e ?_)⟩⟩
  have u1 : upd (upd xem 0 (nI (M (e + 1)))) 1 (nI (M e)) = rn_em xem M (e + 2) e := by
    funext x
    unfold rn_em
    by_cases z : x = 1
    · subst z
      rw [pk_us, if_pos (by omega)]
      congr 2
    · rw [pk_un z]
      by_cases y : x = 0
      · subst y
        rw [pk_us, if_pos (by omega)]
        congr 2
      · rw [pk_un y, if_neg (by omega)]
  have u2 : upd (upd xel 0 (nI (L (e + 1)))) 1 (nI (L e)) = rn_em xel L (e + 2) e := by
    funext x
    unfold rn_em
    by_cases z : x = 1
    · subst z
      rw [pk_us, if_pos (by omega)]
      congr 2
    · rw [pk_un z]
      by_cases y : x = 0
      · subst y
        rw [pk_us, if_pos (by omega)]
        congr 2
      · rw [pk_un y, if_neg (by omega)]
  rw [u1, u2]
  exact key
end
end
section
/-! runs: the program as it is built, in lockstep -/
/-- the frames of the component, and the same of the reference -/
def rn_B (nc nm : Nat) (ln : Nat → Nat) (tg : Nat → Option Nat) (lv : Int32) (xd : Nat) (M L : Nat → Nat) (H : Nat → Option Nat) (xfm xfl xfh yvm yvl yvh : Nat → Int32) : Prop :=
  ∀ j, j < xd → M j < nm ∧ bt lv (M j) = true ∧ (∀ x, H j = some x → x < nc) ∧ xfm j = nI (M j) ∧ xfh j = oI (H j) ∧ yvm j = nI (M j) ∧ yvl j = nI (L j) ∧ yvh j = oI (H j) ∧ L j < 8 ∧ (j + 1 < xd → L j < ln (M j) ∧ tg (6 * M j + L j) = none ∧ xfl j = nI (se_pos ln tg (M j) (L j)))
/-- the innermost is at an instruction, or through -/
def rn_TA (ln : Nat → Nat) (tg : Nat → Option Nat) (m l : Nat) (x : Int32) : Prop := (l < ln m ∧ x = nI (se_pos ln tg m l)) ∨ (ln m ≤ l ∧ x = nI (se_pos ln tg m (ln m)))
section
variable {nc nm xd : Nat} {ln M L M' L' : Nat → Nat} {tg H H' : Nat → Option Nat} {lv : Int32} {xfm xfl xfh yvm yvl yvh xfm' xfl' xfh' yvm' yvl' yvh' : Nat → Int32}
theorem rn_Bext (h : rn_B nc nm ln tg lv xd M L H xfm xfl xfh yvm yvl yvh) (e : ∀ j, j < xd → M' j = M j ∧ L' j = L j ∧ H' j = H j ∧ xfm' j = xfm j ∧ xfh' j = xfh j ∧ yvm' j = yvm j ∧ yvl' j = yvl j ∧ yvh' j = yvh j) (e2 : ∀ j, j + 1 < xd → xfl' j = xfl j) : rn_B nc nm ln tg lv xd M' L' H' xfm' xfl' xfh' yvm' yvl' yvh' := by
  intro j hj
  obtain ⟨a1, a2, a3, a4, a5, a6, a7, a8⟩ := e j hj
  obtain ⟨b1, b2, b3, b4, b5, b6, b7, b8, b9, b10⟩ := h j hj
  rw [a1, a2, a3, a4, a5, a6, a7, a8]
  refine ⟨b1, b2, b3, b4, b5, b6, b7, b8, b9, fun w => ?_⟩
  rw [e2 j w]; exact b10 w
theorem rn_Bline {e l : Nat} {v : Int32} (hl : l < 8) (h : rn_B nc nm ln tg lv (e + 1) M L H xfm xfl xfh yvm yvl yvh) : rn_B nc nm ln tg lv (e + 1) M (un L e l) H xfm (upd xfl e v) xfh yvm (upd yvl e (nI l)) yvh := by
  intro j hj
  obtain ⟨b1, b2, b3, b4, b5, b6, b7, b8, b9, b10⟩ := h j hj
  by_cases z : j = e
  · subst z
    exact ⟨b1, b2, b3, b4, b5, b6, by rw [pk_us, un_s], b8, by rw [un_s]; exact hl, fun w => by omega⟩
  · rw [un_n z, pk_un z, pk_un z]
    exact ⟨b1, b2, b3, b4, b5, b6, b7, b8, b9, b10⟩
theorem rn_Bnew {e c : Nat} (hc : c < nc) (h : rn_B nc nm ln tg lv (e + 1) M L H xfm xfl xfh yvm yvl yvh) : rn_B nc nm ln tg lv (e + 1) M L (uo H e (some c)) xfm xfl (upd xfh e (nI c)) yvm yvl (upd yvh e (nI c)) := by
  intro j hj
  obtain ⟨b1, b2, b3, b4, b5, b6, b7, b8, b9, b10⟩ := h j hj
  by_cases z : j = e
  · subst z
    exact ⟨b1, b2, fun x ex => by rw [uo_s] at ex; cases ex; exact hc, b4, by rw [pk_us, uo_s]; rfl, b6, b7, by rw [pk_us, uo_s]; rfl, b9, b10⟩
  · rw [uo_n z, pk_un z, pk_un z]
    exact ⟨b1, b2, b3, b4, b5, b6, b7, b8, b9, b10⟩
theorem rn_Bpop {f : Nat} {v : Int32} (hln : ∀ m, m < nm → ln m ≤ 6) (h : rn_B nc nm ln tg lv (f + 2) M L H xfm xfl xfh yvm yvl yvh) : rn_B nc nm ln tg lv (f + 1) M (un L f (L f + 1)) H xfm (upd xfl f v) xfh yvm (upd yvl f (nI (L f + 1))) yvh := by
  have h1 : rn_B nc nm ln tg lv (f + 1) M L H xfm xfl xfh yvm yvl yvh := fun j hj => by
    obtain ⟨b1, b2, b3, b4, b5, b6, b7, b8, b9, b10⟩ := h j (by omega)
    exact ⟨b1, b2, b3, b4, b5, b6, b7, b8, b9, fun w => b10 (by omega)⟩
  obtain ⟨b1, _, _, _, _, _, _, _, _, b10⟩ := h f (by omega)
  have q1 := (b10 (by omega)).1
  have q2 := hln _ b1
  exact rn_Bline (by omega) h1
theorem rn_Bpush {e g : Nat} {h0 : Option Nat} {v : Int32} (hg : g < nm) (hgl : bt lv g = true) (hh : ∀ x, h0 = some x → x < nc) (hle : L e < ln (M e)) (htn : tg (6 * M e + L e) = none) (hx : xfl e = nI (se_pos ln tg (M e) (L e))) (h : rn_B nc nm ln tg lv (e + 1) M L H xfm xfl xfh yvm yvl yvh) :
    rn_B nc nm ln tg lv (e + 2) (un M (e + 1) g) (un L (e + 1) 0) (uo H (e + 1) h0) (upd xfm (e + 1) (nI g)) (upd xfl (e + 1) v) (upd xfh (e + 1) (oI h0)) (upd yvm (e + 1) (nI g)) (upd yvl (e + 1) (nI 0)) (upd yvh (e + 1) (oI h0)) := by
  intro j hj
  by_cases z : j = e + 1
  · subst z
    rw [un_s, un_s, uo_s, pk_us, pk_us, pk_us, pk_us, pk_us, pk_us]
    exact ⟨hg, hgl, hh, rfl, rfl, rfl, rfl, rfl, by omega, fun w => by omega⟩
  · obtain ⟨b1, b2, b3, b4, b5, b6, b7, b8, b9, b10⟩ := h j (by omega)
    rw [un_n z, un_n z, uo_n z, pk_un z, pk_un z, pk_un z, pk_un z, pk_un z, pk_un z]
    refine ⟨b1, b2, b3, b4, b5, b6, b7, b8, b9, fun w => ?_⟩
    by_cases y : j = e
    · rw [y]; exact ⟨hle, htn, hx⟩
    · exact b10 (by omega)
end
section
variable {nc nm nr : Nat} {pa : Nat → Option Nat} {hm na ln op rk cl nn : Nat → Nat} {fc ups br ic ii fs sc rc rn : Nat → Int32} {dc fd : Nat → Nat → Option Nat}
variable {xnd xmd xnh xlv xq xs xbt xft xdp xst xss xpt xtr xsm : Int32} {xfs xdc xfd xqu xwt xsi xtg xnw xfa xsg xnn xtk xrl bop bcl bin bsk bme bli bou xnf xfm xfl xfh xou xem xel : Nat → Int32}
variable {ypl ynd ymd ynh ylv ybt ydp yst yot yen : Int32} {yow yma yil ynu ynn yfa yvm yvl yvh ypu : Nat → Int32}
variable {tg nw : Nat → Option Nat} {N : Nat → Nat} {nf : Nat → Int32 → Option Nat}
theorem rn_new {E : Int32 → SX → SY → Prop} {x1 : Int32} (C : sp_cls nc fc pa ups) (MM : sp_mth nc nm fc hm na ln br dc) (I : sp_ins nm ln op cl nn ic ii fs sc) (F : sp_fd nc pa fc ups hm dc fd) (W : sp_ok nc nm fc br ln op cl nn fd) (hsm : ¬ xsm = 0) (hx1 : x1 = 1) (e2 : ylv = xlv) (e3 : (ynh ||| ylv) = (xlv ||| xnh))
    (B6 : ∀ m, bt xlv m = true → bt (xlv ||| xnh) m = true ∧ br m = 0)
    (B7 : ∀ m k, m < nm → bt xlv m = true → k < ln m → (op (6 * m + k) ≠ 0 → op (6 * m + k) ≠ 5 → (op (6 * m + k) = 3 → tg (6 * m + k) = none) → bt xnd (cl (6 * m + k)) = true) ∧
      (op (6 * m + k) = 2 ∨ op (6 * m + k) = 3 → tg (6 * m + k) = none → ∀ g, fd (cl (6 * m + k)) (nn (6 * m + k)) = some g → bt (xlv ||| xnh) g = true) ∧
      (op (6 * m + k) = 3 → tg (6 * m + k) = none → ∀ g, fd (cl (6 * m + k)) (nn (6 * m + k)) = some g → bt xlv g = true ∧ nf (cl (6 * m + k)) (nI (N g)) = some g))
    (B8 : ∀ j, j < 6 * nm → xtg j = oI (tg j) ∧ yil j = oI (tg j) ∧ ∀ t, tg j = some t → t < nm ∧ sp_sh ln op t ∧ (op j = 2 ∨ op j = 3))
    (B9 : ∀ c, c < nc → xnw c = oI (nw c) ∧ ynu c = oI (nw c) ∧ (bt xnd c = true ↔ ∃ k, nw c = some k) ∧ ∀ k, nw c = some k → k < 128)
    (B10 : ∀ c d k, c < nc → d < nc → nw c = some k → nw d = some k → c = d)
    (B11 : ∀ m, m < nm → bt (xlv ||| xnh) m = true → N m < 32 ∧ xnn m = nI (N m) ∧ ∃ r, r < nm ∧ yfa m = nI r ∧ ynn r = nI (N m))
    (B12 : sw_nf nc nm pa hm (xlv ||| xnh) N nf) (B13 : ∀ a n, a < nc → n < 32 → xnf (32 * a + n) = oI (nf a (nI n)))
    (B14 : ∀ m k, m < nm → bt xlv m = true → k < ln m → se_row ln op cl nn ii fd tg nw xnn m k bop bcl bin bsk bme bli bou)
    (B15 : ∀ m, m < nm → xrl m = nI (if bt xlv m = true then se_pos ln tg m (ln m) else 0))
    (hE : ∀ (r xd : Int32) (d s np : Nat) (M L : Nat → Nat) (xfm xfl xfh yvm yvl yvh ou : Nat → Int32), d ≤ 8 → np ≤ 200 → (∀ j, j < d → yvm j = nI (M j) ∧ yvl j = nI (L j)) → E r ((nI nc), (nI nm), (nI nr), xnd, xmd, xnh, xlv, xq, xs, xbt, xft, xd, (nI s), r, (nI np), (nI d), xsm, fc, (oF pa), xfs, ups, (nF hm), (nF na), br, (nF ln), (nF op), ic, ii, xdc, xfd, (nF rk), rc, rn, xqu, xwt, xsi, xtg, xnw, xfa, xsg, xnn, xtk, xrl, bop, bcl, bin, bsk, bme, bli, bou, xnf, xfm, xfl, xfh, ou, (rn_em xem M d 0), (rn_em xel L d 0)) ((nI nc), (nI nm), (nI nr), ypl, ynd, ymd, ynh, ylv, ybt, (nI d), (nI s), (nI np), r, fc, br, (oF pa), ups, yow, yma, (nF hm), (nF na), (nF ln), (nF op), fs, sc, (nF rk), rc, rn, yil, ynu, ynn, yfa, yvm, yvl, yvh, ou)) :
    ∀ μ, (∀ (e s np : Nat) (M L : Nat → Nat) (H : Nat → Option Nat) (xfm xfl xfh yvm yvl yvh ou : Nat → Int32), 2 * (200 - s) + (e + 1) ≤ μ → e + 1 ≤ 8 → s ≤ 200 → np ≤ s → rn_B nc nm ln tg xlv (e + 1) M L H xfm xfl xfh yvm yvl yvh → rn_TA ln tg (M e) (L e) (xfl e) →
        rn_out E (fun p => ∀ n, μ < n → rn_X p n (-1) ((nI nc), (nI nm), (nI nr), xnd, xmd, xnh, xlv, xq, xs, xbt, xft, (nI (e + 1)), (nI s), xss, (nI np), xtr, xsm, fc, (oF pa), xfs, ups, (nF hm), (nF na), br, (nF ln), (nF op), ic, ii, xdc, xfd, (nF rk), rc, rn, xqu, xwt, xsi, xtg, xnw, xfa, xsg, xnn, xtk, xrl, bop, bcl, bin, bsk, bme, bli, bou, xnf, xfm, xfl, xfh, ou, xem, xel)) (fun p => ∀ n, 2 * μ + 2 < n → rn_Y p x1 n ((nI nc), (nI nm), (nI nr), ypl, ynd, ymd, ynh, ylv, ybt, (nI (e + 1)), (nI s), (nI np), (-1), fc, br, (oF pa), ups, yow, yma, (nF hm), (nF na), (nF ln), (nF op), fs, sc, (nF rk), rc, rn, yil, ynu, ynn, yfa, yvm, yvl, yvh, ou))) ∧
      (∀ (e s np t : Nat) (M L : Nat → Nat) (H : Nat → Option Nat) (xfm xfl xfh yvm yvl yvh ou : Nat → Int32), 2 * (200 - s) + (e + 2) ≤ μ → e + 2 ≤ 8 → s ≤ 200 → np ≤ s → rn_B nc nm ln tg xlv (e + 1) M L H xfm xfl xfh yvm yvl yvh → L e < ln (M e) → tg (6 * M e + L e) = some t → M (e + 1) = t → L (e + 1) < ln t → xfl e = nI (se_pos ln tg (M e) (L e) + 1 + L (e + 1)) → yvm (e + 1) = nI t → yvl (e + 1) = nI (L (e + 1)) → yvh (e + 1) = oI (H e) →
        rn_out E (fun p => ∀ n, μ < n → rn_X p n (-1) ((nI nc), (nI nm), (nI nr), xnd, xmd, xnh, xlv, xq, xs, xbt, xft, (nI (e + 1)), (nI s), xss, (nI np), xtr, xsm, fc, (oF pa), xfs, ups, (nF hm), (nF na), br, (nF ln), (nF op), ic, ii, xdc, xfd, (nF rk), rc, rn, xqu, xwt, xsi, xtg, xnw, xfa, xsg, xnn, xtk, xrl, bop, bcl, bin, bsk, bme, bli, bou, xnf, xfm, xfl, xfh, ou, xem, xel)) (fun p => ∀ n, 2 * μ + 2 < n → rn_Y p x1 n ((nI nc), (nI nm), (nI nr), ypl, ynd, ymd, ynh, ylv, ybt, (nI (e + 2)), (nI s), (nI np), (-1), fc, br, (oF pa), ups, yow, yma, (nF hm), (nF na), (nF ln), (nF op), fs, sc, (nF rk), rc, rn, yil, ynu, ynn, yfa, yvm, yvl, yvh, ou))) := by
  have h10 := C.1
  have h30 := MM.1
  have hln : ∀ m, m < nm → ln m ≤ 6 := fun m hm' => (MM.2.1 m hm').2.2.1
  have hz : x1 = 1 ∧ (1 : Int32) = 1 ∨ ¬ x1 = 1 ∧ (1 : Int32) = 0 := Or.inl ⟨hx1, rfl⟩
  have hgr : ∀ m, m < nm → ∀ k, k < ln m → se_gr ln tg (6 * m + k) ≤ 4 := by
    intro m hm' k hk
    have := hln m hm'
    cases et : tg (6 * m + k) with
    | none => unfold se_gr; rw [et]; show 1 ≤ 4; omega
    | some t => have := ((B8 (6 * m + k) (by omega)).2.2 t et).2.1.1; unfold se_gr; rw [et]; show 1 + ln t ≤ 4; omega
  have h24 : ∀ m, m < nm → se_pos ln tg m (ln m) ≤ 24 := fun m hm' => by
    have h1 := se_4 (hgr m hm') (ln m) (Nat.le_refl _)
    have h2 := hln m hm'
    omega
  have hposlt : ∀ m k, k < ln m → se_pos ln tg m k < se_pos ln tg m (ln m) := fun m k hk => by
    have h1 := se_mono' (ln := ln) (tg := tg) (m := m) (show k + 1 ≤ ln m by omega)
    have h2 := se_ps (ln := ln) (tg := tg) m k
    have h3 : 1 ≤ se_gr ln tg (6 * m + k) := by unfold se_gr; split <;> omega
    omega
  have hrl : ∀ m, m < nm → bt xlv m = true → xrl m = nI (se_pos ln tg m (ln m)) := fun m hm' hl => by rw [B15 m hm', if_pos hl]
  have HX : ∀ c, c < nc → xnw c = oI (nw c) ∧ ∀ k, nw c = some k → k < 128 := fun c hc => ⟨(B9 c hc).1, (B9 c hc).2.2.2⟩
  have YN : ∀ m, m < nm → bt (ynh ||| ylv) m = true → ∃ r, r < nm ∧ yfa m = nI r ∧ ynn r = nI (N m) := fun m a b => by rw [e3] at b; exact (B11 m a b).2.2
  have HnfY : sw_nf nc nm pa hm (ynh ||| ylv) N nf := by rw [e3]; exact B12
  have htrow : ∀ m k, m < nm → bt xlv m = true → k < ln m → rn_tr bme bli bou m (se_pos ln tg m k) k := fun m k a b c => by
    obtain ⟨_, _, _, _, _, _, r7, r8, r9⟩ := (B14 m k a b c).1
    exact ⟨r7, r8, r9⟩
  intro μ
  induction μ with
  | zero => exact ⟨fun e s np M L H xfm xfl xfh yvm yvl yvh ou h1 => by omega, fun e s np t M L H xfm xfl xfh yvm yvl yvh ou h1 => by omega⟩
  | succ μ ih =>
    obtain ⟨ihA, ihB⟩ := ih
    constructor
    · intro e s np M L H xfm xfl xfh yvm yvl yvh ou hμ hd8 hs hnp hfr hTA
      obtain ⟨b1, b2, b3, b4, b5, b6, b7, b8, b9, _⟩ := hfr e (by omega)
      have hl6 := hln _ b1
      have hB24 := h24 _ b1
      have hrle := hrl _ b1 b2
      have hfY : ∀ j, j < e + 1 → yvm j = nI (M j) ∧ yvl j = nI (L j) := fun j hj => by
        obtain ⟨_, _, _, _, _, c6, c7, _⟩ := hfr j hj
        exact ⟨c6, c7⟩
      have hlowX : ∀ j, j < e → xfm j = nI (M j) ∧ xfl j = nI (se_pos ln tg (M j) (L j)) ∧ M j < 30 ∧ se_pos ln tg (M j) (L j) < 24 ∧ L j < 24 ∧ rn_tr bme bli bou (M j) (se_pos ln tg (M j) (L j)) (L j) := fun j hj => by
        obtain ⟨c1, c2, _, c4, _, _, _, _, c9, c10⟩ := hfr j (by omega)
        obtain ⟨q1, q2, q3⟩ := c10 (by omega)
        have q4 := hposlt (M j) (L j) q1
        have q5 := h24 _ c1
        exact ⟨c4, q3, by omega, by omega, by omega, htrow _ _ c1 c2 q1⟩
      rcases hTA with ⟨hlt, hxl⟩ | ⟨hge, hxl⟩
      · -- an instruction
        have hpl := hposlt (M e) (L e) hlt
        have hXg : ∀ {post : Int32 → SX → Prop}, s < 200 → wpX_stepAnew post ((nI nc), (nI nm), (nI nr), xnd, xmd, xnh, xlv, xq, xs, xbt, xft, (nI (e + 1)), (nI (s + 1)), xss, (nI np), xtr, xsm, fc, (oF pa), xfs, ups, (nF hm), (nF na), br, (nF ln), (nF op), ic, ii, xdc, xfd, (nF rk), rc, rn, xqu, xwt, xsi, xtg, xnw, xfa, xsg, xnn, xtk, xrl, bop, bcl, bin, bsk, bme, bli, bou, xnf, xfm, xfl, xfh, ou, xem, xel) (nI e) (nI (24 * M e + se_pos ln tg (M e) (L e))) → wpX_go post ((nI nc), (nI nm), (nI nr), xnd, xmd, xnh, xlv, xq, xs, xbt, xft, (nI (e + 1)), (nI s), xss, (nI np), xtr, xsm, fc, (oF pa), xfs, ups, (nF hm), (nF na), br, (nF ln), (nF op), ic, ii, xdc, xfd, (nF rk), rc, rn, xqu, xwt, xsi, xtg, xnw, xfa, xsg, xnn, xtk, xrl, bop, bcl, bin, bsk, bme, bli, bou, xnf, xfm, xfl, xfh, ou, xem, xel) := fun hs' h =>
          sx_goStep (by omega) (by omega) b4 hxl (by omega) (by omega) hs (Or.inr ⟨hsm, hrle⟩) hpl (fun z => by omega) (fun _ z => absurd z hsm) (fun _ _ => h)
        have hYg : ∀ {post : SY → Prop}, s < 200 → wpY_step post ((nI nc), (nI nm), (nI nr), ypl, ynd, ymd, ynh, ylv, ybt, (nI (e + 1)), (nI (s + 1)), (nI np), (-1), fc, br, (oF pa), ups, yow, yma, (nF hm), (nF na), (nF ln), (nF op), fs, sc, (nF rk), rc, rn, yil, ynu, ynn, yfa, yvm, yvl, yvh, ou) 1 (nI e) (nI (6 * M e + L e)) → wpY_goOn post ((nI nc), (nI nm), (nI nr), ypl, ynd, ymd, ynh, ylv, ybt, (nI (e + 1)), (nI s), (nI np), (-1), fc, br, (oF pa), ups, yow, yma, (nF hm), (nF na), (nF ln), (nF op), fs, sc, (nF rk), rc, rn, yil, ynu, ynn, yfa, yvm, yvl, yvh, ou) 1 := fun hs' h =>
          sy_goStep (by omega) (by omega) b6 b7 (by omega) (by omega) hs hlt (fun z => by omega) (fun _ => h)
        have hfX : ∀ j, j < e + 1 → xfm j = nI (M j) ∧ xfl j = nI (se_pos ln tg (M j) (L j)) ∧ M j < 30 ∧ se_pos ln tg (M j) (L j) < 24 ∧ L j < 24 ∧ rn_tr bme bli bou (M j) (se_pos ln tg (M j) (L j)) (L j) := fun j hj => by
          by_cases z : j = e
          · rw [z]; exact ⟨b4, hxl, by omega, by omega, by omega, htrow _ _ b1 b2 hlt⟩
          · exact hlowX j (by omega)
        rcases Nat.lt_or_ge s 200 with hs2 | hs2
        · have hi : 6 * M e + L e < 180 := by omega
          have hi6 : 6 * M e + L e < 6 * nm := by omega
          have Ii := I (M e) (L e) b1 hlt
          have hcc := sp_okc W b1 hlt
          have hff := sp_okf W b1 hlt
          have hn5 := Ii.2.2.2.2.1
          have hn4 := Ii.2.2.2.1
          have ho6 := Ii.1
          obtain ⟨k7a, k7b, k7c⟩ := B7 (M e) (L e) b1 b2 hlt
          obtain ⟨t8a, t8b, t8c⟩ := B8 _ hi6
          obtain ⟨hrow, hrowI⟩ := B14 (M e) (L e) b1 b2 hlt
          have hps := se_ps (ln := ln) (tg := tg) (M e) (L e)
          have hYs : ∀ {post : SY → Prop}, (op (6 * M e + L e) = 0 → post ((nI nc), (nI nm), (nI nr), ypl, ynd, ymd, ynh, ylv, ybt, (nI (e + 1)), (nI (s + 1)), (nI (np + 1)), (-1), fc, br, (oF pa), ups, yow, yma, (nF hm), (nF na), (nF ln), (nF op), fs, sc, (nF rk), rc, rn, yil, ynu, ynn, yfa, yvm, (upd yvl e (nI (L e + 1))), yvh, (upd ou np (sc (6 * M e + L e))))) → (op (6 * M e + L e) = 1 → post ((nI nc), (nI nm), (nI nr), ypl, ynd, ymd, ynh, ylv, ybt, (nI (e + 1)), (nI (s + 1)), (nI np), (-1), fc, br, (oF pa), ups, yow, yma, (nF hm), (nF na), (nF ln), (nF op), fs, sc, (nF rk), rc, rn, yil, ynu, ynn, yfa, yvm, (upd yvl e (nI (L e + 1))), (upd yvh e (nI (cl (6 * M e + L e)))), ou)) → (op (6 * M e + L e) = 2 → rn_bel ups (H e) (cl (6 * M e + L e)) = false → post ((nI nc), (nI nm), (nI nr), ypl, ynd, ymd, ynh, ylv, ybt, (nI (e + 1)), (nI (s + 1)), (nI np), 2, fc, br, (oF pa), ups, yow, yma, (nF hm), (nF na), (nF ln), (nF op), fs, sc, (nF rk), rc, rn, yil, ynu, ynn, yfa, yvm, yvl, yvh, ou)) →
              (op (6 * M e + L e) = 2 → rn_bel ups (H e) (cl (6 * M e + L e)) = true → wpY_call post ((nI nc), (nI nm), (nI nr), ypl, ynd, ymd, ynh, ylv, ybt, (nI (e + 1)), (nI (s + 1)), (nI np), (-1), fc, br, (oF pa), ups, yow, yma, (nF hm), (nF na), (nF ln), (nF op), fs, sc, (nF rk), rc, rn, yil, ynu, ynn, yfa, yvm, yvl, yvh, ou) 1 (nI (6 * M e + L e)) (oI (H e))) → (op (6 * M e + L e) = 3 → wpY_call post ((nI nc), (nI nm), (nI nr), ypl, ynd, ymd, ynh, ylv, ybt, (nI (e + 1)), (nI (s + 1)), (nI np), (-1), fc, br, (oF pa), ups, yow, yma, (nF hm), (nF na), (nF ln), (nF op), fs, sc, (nF rk), rc, rn, yil, ynu, ynn, yfa, yvm, yvl, yvh, ou) 1 (nI (6 * M e + L e)) (-1)) → (op (6 * M e + L e) = 4 → post ((nI nc), (nI nm), (nI nr), ypl, ynd, ymd, ynh, ylv, ybt, (nI (e + 1)), (nI (s + 1)), (nI np), (-1), fc, br, (oF pa), ups, yow, yma, (nF hm), (nF na), (nF ln), (nF op), fs, sc, (nF rk), rc, rn, yil, ynu, ynn, yfa, yvm, (upd yvl e (nI (L e + if rn_bel ups (H e) (cl (6 * M e + L e)) = true then 1 else 2))), yvh, ou)) → (op (6 * M e + L e) = 5 → post ((nI nc), (nI nm), (nI nr), ypl, ynd, ymd, ynh, ylv, ybt, (nI (e + 1)), (nI (s + 1)), (nI np), 1, fc, br, (oF pa), ups, yow, yma, (nF hm), (nF na), (nF ln), (nF op), fs, sc, (nF rk), rc, rn, yil, ynu, ynn, yfa, yvm, yvl, yvh, ou)) → wpY_step post ((nI nc), (nI nm), (nI nr), ypl, ynd, ymd, ynh, ylv, ybt, (nI (e + 1)), (nI (s + 1)), (nI np), (-1), fc, br, (oF pa), ups, yow, yma, (nF hm), (nF na), (nF ln), (nF op), fs, sc, (nF rk), rc, rn, yil, ynu, ynn, yfa, yvm, yvl, yvh, ou) 1 (nI e) (nI (6 * M e + L e)) := fun p1 p2 p3 p4 p5 p6 p7 =>
            sy_step (d := e + 1) (s := s + 1) (np := np) (ou := ou) (l := L e) (h := H e) (yen := -1) (by omega) hi Ii b7 (by omega) b8 (fun x ex => by have := b3 x ex; omega) (by omega) p1 p2 p3 p4 p5 p6 p7
          have hstop : ∀ (r : Int32), ¬ r = -1 → 0 ≤ r → (∀ post : Int32 → SX → Prop, post r ((nI nc), (nI nm), (nI nr), xnd, xmd, xnh, xlv, xq, xs, xbt, xft, (nI (e + 1)), (nI (s + 1)), xss, (nI np), xtr, xsm, fc, (oF pa), xfs, ups, (nF hm), (nF na), br, (nF ln), (nF op), ic, ii, xdc, xfd, (nF rk), rc, rn, xqu, xwt, xsi, xtg, xnw, xfa, xsg, xnn, xtk, xrl, bop, bcl, bin, bsk, bme, bli, bou, xnf, xfm, xfl, xfh, ou, xem, xel) → wpX_stepAnew post ((nI nc), (nI nm), (nI nr), xnd, xmd, xnh, xlv, xq, xs, xbt, xft, (nI (e + 1)), (nI (s + 1)), xss, (nI np), xtr, xsm, fc, (oF pa), xfs, ups, (nF hm), (nF na), br, (nF ln), (nF op), ic, ii, xdc, xfd, (nF rk), rc, rn, xqu, xwt, xsi, xtg, xnw, xfa, xsg, xnn, xtk, xrl, bop, bcl, bin, bsk, bme, bli, bou, xnf, xfm, xfl, xfh, ou, xem, xel) (nI e) (nI (24 * M e + se_pos ln tg (M e) (L e)))) → (∀ post : SY → Prop, post ((nI nc), (nI nm), (nI nr), ypl, ynd, ymd, ynh, ylv, ybt, (nI (e + 1)), (nI (s + 1)), (nI np), r, fc, br, (oF pa), ups, yow, yma, (nF hm), (nF na), (nF ln), (nF op), fs, sc, (nF rk), rc, rn, yil, ynu, ynn, yfa, yvm, yvl, yvh, ou) → wpY_step post ((nI nc), (nI nm), (nI nr), ypl, ynd, ymd, ynh, ylv, ybt, (nI (e + 1)), (nI (s + 1)), (nI np), (-1), fc, br, (oF pa), ups, yow, yma, (nF hm), (nF na), (nF ln), (nF op), fs, sc, (nF rk), rc, rn, yil, ynu, ynn, yfa, yvm, yvl, yvh, ou) 1 (nI e) (nI (6 * M e + L e))) →
              rn_out E (fun p => ∀ n, μ + 1 < n → rn_X p n (-1) ((nI nc), (nI nm), (nI nr), xnd, xmd, xnh, xlv, xq, xs, xbt, xft, (nI (e + 1)), (nI s), xss, (nI np), xtr, xsm, fc, (oF pa), xfs, ups, (nF hm), (nF na), br, (nF ln), (nF op), ic, ii, xdc, xfd, (nF rk), rc, rn, xqu, xwt, xsi, xtg, xnw, xfa, xsg, xnn, xtk, xrl, bop, bcl, bin, bsk, bme, bli, bou, xnf, xfm, xfl, xfh, ou, xem, xel)) (fun p => ∀ n, 2 * (μ + 1) + 2 < n → rn_Y p x1 n ((nI nc), (nI nm), (nI nr), ypl, ynd, ymd, ynh, ylv, ybt, (nI (e + 1)), (nI s), (nI np), (-1), fc, br, (oF pa), ups, yow, yma, (nF hm), (nF na), (nF ln), (nF op), fs, sc, (nF rk), rc, rn, yil, ynu, ynn, yfa, yvm, yvl, yvh, ou)) := fun r hr1 hr2 hx hy =>
            ⟨r, _, _, hE r (nI (e + 1)) (e + 1) (s + 1) np M L xfm xfl xfh yvm yvl yvh ou hd8 (by omega) hfY, rn_XS (fun post hp => hXg hs2 (hx post hp)) hr1 (fun post hp => sx_noteN (P := fun j => se_pos ln tg (M j) (L j)) hd8 hsm hfX hp) (by omega), rn_YS hz rfl (fun post hp => hYg hs2 (hy post hp)) rfl hr2 (by omega)⟩
          -- the class whose method is asked for, in the reference
          have hcls : ∀ Q : Prop, (op (6 * M e + L e) = 2 ∧ rn_bel ups (H e) (cl (6 * M e + L e)) = true ∨ op (6 * M e + L e) = 3) → (∀ c hx, c < nc → rn_cN op cl nn fd nf N xlv (H e) (6 * M e + L e) = rn_lv xlv (nf c (nI (N ((fd (cl (6 * M e + L e)) (nn (6 * M e + L e))).getD 0)))) → (hx = nI c ∨ hx = -1 ∧ fs (6 * M e + L e) = nI c) → (∀ post : SY → Prop, wpY_call post ((nI nc), (nI nm), (nI nr), ypl, ynd, ymd, ynh, ylv, ybt, (nI (e + 1)), (nI (s + 1)), (nI np), (-1), fc, br, (oF pa), ups, yow, yma, (nF hm), (nF na), (nF ln), (nF op), fs, sc, (nF rk), rc, rn, yil, ynu, ynn, yfa, yvm, yvl, yvh, ou) 1 (nI (6 * M e + L e)) hx → wpY_step post ((nI nc), (nI nm), (nI nr), ypl, ynd, ymd, ynh, ylv, ybt, (nI (e + 1)), (nI (s + 1)), (nI np), (-1), fc, br, (oF pa), ups, yow, yma, (nF hm), (nF na), (nF ln), (nF op), fs, sc, (nF rk), rc, rn, yil, ynu, ynn, yfa, yvm, yvl, yvh, ou) 1 (nI e) (nI (6 * M e + L e))) → Q) → Q := by
            intro Q hop hQ
            rcases hop with ⟨o2, hb⟩ | o3
            · cases eh : H e with
              | none => rw [eh] at hb; cases hb
              | some x =>
                refine hQ x (nI x) (b3 x eh) (by unfold rn_cN; rw [if_neg (by omega), eh]) (Or.inl rfl) (fun post hp => hYs (fun z => by omega) (fun z => by omega) (fun _ z => by rw [hb] at z; cases z) (fun _ _ => by rw [eh]; exact hp) (fun z => by omega) (fun z => by omega) (fun z => by omega))
            · exact hQ (cl (6 * M e + L e)) (-1) (hcc (by omega) (by omega)) (by unfold rn_cN; rw [if_pos o3]) (Or.inr ⟨rfl, (hn4 (by omega) (by omega)).2.1⟩) (fun post hp => hYs (fun z => by omega) (fun z => by omega) (fun z => by omega) (fun z => by omega) (fun _ => hp) (fun z => by omega) (fun z => by omega))
          have hnot2 : op (6 * M e + L e) = 2 → rn_bel ups (H e) (cl (6 * M e + L e)) = false → ¬ (op (6 * M e + L e) = 2 ∧ rn_bel ups (H e) (cl (6 * M e + L e)) = true ∨ op (6 * M e + L e) = 3) := by
            rintro o2 hb (⟨_, z⟩ | z)
            · rw [hb] at z; cases z
            · omega
          cases et : tg (6 * M e + L e) with
          | some t =>
            obtain ⟨t1, t2, o23⟩ := t8c t et
            have eg : se_gr ln tg (6 * M e + L e) = 1 + ln t := by unfold se_gr; rw [et]
            have hXe : ∀ {post : Int32 → SX → Prop}, (op (6 * M e + L e) = 2 → rn_bel ups (H e) (cl (6 * M e + L e)) = false → post 2 ((nI nc), (nI nm), (nI nr), xnd, xmd, xnh, xlv, xq, xs, xbt, xft, (nI (e + 1)), (nI (s + 1)), xss, (nI np), xtr, xsm, fc, (oF pa), xfs, ups, (nF hm), (nF na), br, (nF ln), (nF op), ic, ii, xdc, xfd, (nF rk), rc, rn, xqu, xwt, xsi, xtg, xnw, xfa, xsg, xnn, xtk, xrl, bop, bcl, bin, bsk, bme, bli, bou, xnf, xfm, xfl, xfh, ou, xem, xel)) → ((op (6 * M e + L e) = 2 ∧ rn_bel ups (H e) (cl (6 * M e + L e)) = true ∨ op (6 * M e + L e) = 3) → e + 1 = 8 → post 4 ((nI nc), (nI nm), (nI nr), xnd, xmd, xnh, xlv, xq, xs, xbt, xft, (nI (e + 1)), (nI (s + 1)), xss, (nI np), xtr, xsm, fc, (oF pa), xfs, ups, (nF hm), (nF na), br, (nF ln), (nF op), ic, ii, xdc, xfd, (nF rk), rc, rn, xqu, xwt, xsi, xtg, xnw, xfa, xsg, xnn, xtk, xrl, bop, bcl, bin, bsk, bme, bli, bou, xnf, xfm, xfl, xfh, ou, xem, xel)) →
                ((op (6 * M e + L e) = 2 ∧ rn_bel ups (H e) (cl (6 * M e + L e)) = true ∨ op (6 * M e + L e) = 3) → e + 1 < 8 → post (-1) ((nI nc), (nI nm), (nI nr), xnd, xmd, xnh, xlv, xq, xs, xbt, xft, (nI (e + 1)), (nI (s + 1)), xss, (nI np), xtr, xsm, fc, (oF pa), xfs, ups, (nF hm), (nF na), br, (nF ln), (nF op), ic, ii, xdc, xfd, (nF rk), rc, rn, xqu, xwt, xsi, xtg, xnw, xfa, xsg, xnn, xtk, xrl, bop, bcl, bin, bsk, bme, bli, bou, xnf, xfm, (upd xfl e (nI (se_pos ln tg (M e) (L e) + 1))), xfh, ou, xem, xel)) → wpX_stepAnew post ((nI nc), (nI nm), (nI nr), xnd, xmd, xnh, xlv, xq, xs, xbt, xft, (nI (e + 1)), (nI (s + 1)), xss, (nI np), xtr, xsm, fc, (oF pa), xfs, ups, (nF hm), (nF na), br, (nF ln), (nF op), ic, ii, xdc, xfd, (nF rk), rc, rn, xqu, xwt, xsi, xtg, xnw, xfa, xsg, xnn, xtk, xrl, bop, bcl, bin, bsk, bme, bli, bou, xnf, xfm, xfl, xfh, ou, xem, xel) (nI e) (nI (24 * M e + se_pos ln tg (M e) (L e))) := fun p1 p2 p3 =>
              sx_stepE (d := e + 1) (s := s + 1) (h := H e) C W h30 HX B10 b1 hlt (fun o2 => (B9 _ (hcc (by omega) (by omega))).2.2.1.mp (k7a (by omega) (by omega) (fun z => by omega))) et o23 hrow (by omega) (by omega) hd8 hxl b5 b3 p1 p2 p3
            by_cases hb : op (6 * M e + L e) = 2 ∧ rn_bel ups (H e) (cl (6 * M e + L e)) = false
            · exact hstop 2 (by decide) (by decide) (fun post hp => hXe (fun _ _ => hp) (fun z => absurd z (hnot2 hb.1 hb.2)) (fun z => absurd z (hnot2 hb.1 hb.2))) (fun post hp => hYs (fun z => by omega) (fun z => by omega) (fun _ _ => hp) (fun _ z => by rw [hb.2] at z; cases z) (fun z => by omega) (fun z => by omega) (fun z => by omega))
            · have hop : op (6 * M e + L e) = 2 ∧ rn_bel ups (H e) (cl (6 * M e + L e)) = true ∨ op (6 * M e + L e) = 3 := by
                rcases o23 with o2 | o3
                · cases hbb : rn_bel ups (H e) (cl (6 * M e + L e)) with
                  | false => exact absurd ⟨o2, hbb⟩ hb
                  | true => exact Or.inl ⟨o2, rfl⟩
                · exact Or.inr o3
              have hnm : ∀ {Q : Prop}, op (6 * M e + L e) = 2 → rn_bel ups (H e) (cl (6 * M e + L e)) = false → Q := fun a b => absurd ⟨a, b⟩ hb
              refine hcls _ hop (fun c hx c1 c2 c3 c4 => ?_)
              rw [et] at t8b
              rcases Nat.lt_or_ge (e + 1) 8 with h8 | h8
              · have hYpush : ∀ post : SY → Prop, post ((nI nc), (nI nm), (nI nr), ypl, ynd, ymd, ynh, ylv, ybt, (nI (e + 2)), (nI (s + 1)), (nI np), (-1), fc, br, (oF pa), ups, yow, yma, (nF hm), (nF na), (nF ln), (nF op), fs, sc, (nF rk), rc, rn, yil, ynu, ynn, yfa, (upd yvm (e + 1) (nI t)), (upd yvl (e + 1) (nI 0)), (upd yvh (e + 1) (oI (H e))), ou) → wpY_goOn post ((nI nc), (nI nm), (nI nr), ypl, ynd, ymd, ynh, ylv, ybt, (nI (e + 1)), (nI s), (nI np), (-1), fc, br, (oF pa), ups, yow, yma, (nF hm), (nF na), (nF ln), (nF op), fs, sc, (nF rk), rc, rn, yil, ynu, ynn, yfa, yvm, yvl, yvh, ou) 1 := fun post hp =>
                  hYg hs2 (c4 post (sy_callI (by omega) hi (by omega) t8b (by omega) c3 b8 (fun z => by omega) (fun _ => hp)))
                have hXp : ∀ post : Int32 → SX → Prop, post (-1) ((nI nc), (nI nm), (nI nr), xnd, xmd, xnh, xlv, xq, xs, xbt, xft, (nI (e + 1)), (nI (s + 1)), xss, (nI np), xtr, xsm, fc, (oF pa), xfs, ups, (nF hm), (nF na), br, (nF ln), (nF op), ic, ii, xdc, xfd, (nF rk), rc, rn, xqu, xwt, xsi, xtg, xnw, xfa, xsg, xnn, xtk, xrl, bop, bcl, bin, bsk, bme, bli, bou, xnf, xfm, (upd xfl e (nI (se_pos ln tg (M e) (L e) + 1))), xfh, ou, xem, xel) → wpX_go post ((nI nc), (nI nm), (nI nr), xnd, xmd, xnh, xlv, xq, xs, xbt, xft, (nI (e + 1)), (nI s), xss, (nI np), xtr, xsm, fc, (oF pa), xfs, ups, (nF hm), (nF na), br, (nF ln), (nF op), ic, ii, xdc, xfd, (nF rk), rc, rn, xqu, xwt, xsi, xtg, xnw, xfa, xsg, xnn, xtk, xrl, bop, bcl, bin, bsk, bme, bli, bou, xnf, xfm, xfl, xfh, ou, xem, xel) := fun post hp =>
                  hXg hs2 (hXe (fun a b => hnm a b) (fun _ z => by omega) (fun _ _ => hp))
                rcases Nat.eq_zero_or_pos (ln t) with lt0 | ltp
                · -- nothing to do: the reference is through at once
                  have hb2 : rn_B nc nm ln tg xlv (e + 1) M (un L e (L e + 1)) H xfm (upd xfl e (nI (se_pos ln tg (M e) (L e) + 1))) xfh (upd yvm (e + 1) (nI t)) (upd (upd yvl (e + 1) (nI 0)) e (nI (L e + 1))) (upd yvh (e + 1) (oI (H e))) :=
                    rn_Bline (by omega) (rn_Bext hfr (fun j hj => ⟨rfl, rfl, rfl, rfl, rfl, pk_un (by omega), pk_un (by omega), pk_un (by omega)⟩) (fun j hj => rfl))
                  have hta : rn_TA ln tg (M e) (un L e (L e + 1) e) (upd xfl e (nI (se_pos ln tg (M e) (L e) + 1)) e) := by
                    rw [un_s, pk_us]
                    have hq : se_pos ln tg (M e) (L e) + 1 = se_pos ln tg (M e) (L e + 1) := by omega
                    rw [hq]
                    rcases Nat.lt_or_ge (L e + 1) (ln (M e)) with y | y
                    · exact Or.inl ⟨y, rfl⟩
                    · have : L e + 1 = ln (M e) := by omega
                      exact Or.inr ⟨y, by rw [this]⟩
                  refine rn_re (ihA e (s + 1) np M _ H _ _ _ _ _ _ ou (by omega) hd8 (by omega) (by omega) hb2 hta) (fun p hp => rn_XG hXp hp) (fun p hp n hn => rn_YG hz rfl hYpush (rn_YG (μ := 2 * μ + 2) hz rfl (fun post hpp => sy_goPop (e := e + 1) (m := t) (l := 0) (by omega) (by omega) pk_us pk_us (by omega) (by omega) (by omega) (fun z => by omega) (fun f l' ef el hl' => ?_) (fun f ef => ?_)) hp) n (by omega))
                  · have : f = e := by omega
                    subst this
                    rw [pk_un (by omega), b7] at el
                    rw [← sd_inj (by omega) (by omega) el]; exact hpp
                  · have : f = e := by omega
                    subst this
                    exact ⟨L f, by rw [pk_un (by omega)]; exact b7, by omega⟩
                · refine rn_re (ihB e (s + 1) np t (un M (e + 1) t) (un L (e + 1) 0) H xfm (upd xfl e (nI (se_pos ln tg (M e) (L e) + 1))) xfh (upd yvm (e + 1) (nI t)) (upd yvl (e + 1) (nI 0)) (upd yvh (e + 1) (oI (H e))) ou (by omega) (by omega) (by omega) (by omega) (rn_Bext hfr (fun j hj => ⟨un_n (by omega), un_n (by omega), rfl, rfl, rfl, pk_un (by omega), pk_un (by omega), pk_un (by omega)⟩) (fun j hj => pk_un (by omega))) ?_ ?_ un_s ?_ ?_ pk_us ?_ pk_us) (fun p hp => rn_XG hXp hp) (fun p hp n hn => rn_YG hz rfl hYpush hp n (by omega))
                  · rw [un_n (by omega), un_n (by omega)]; exact hlt
                  · rw [un_n (by omega), un_n (by omega)]; exact et
                  · rw [un_s]; exact ltp
                  · rw [pk_us, un_n (by omega), un_n (by omega), un_s, Nat.add_zero]
                  · rw [pk_us, un_s]
              · exact hstop 4 (by decide) (by decide) (fun post hp => hXe (fun a b => hnm a b) (fun _ _ => hp) (fun _ z => by omega)) (fun post hp => c4 post (sy_callI (by omega) hi (by omega) t8b (by omega) c3 b8 (fun _ => hp) (fun z => by omega)))
          | none =>
            have eg : se_gr ln tg (6 * M e + L e) = 1 := by unfold se_gr; rw [et]
            have hq1 : se_pos ln tg (M e) (L e) + 1 = se_pos ln tg (M e) (L e + 1) := by omega
            have hsk60 : se_sk ln op tg (M e) (L e) < 60 := by
              unfold se_sk
              split
              · rename_i hcd
                have := hgr _ b1 (L e + 1) hcd.2
                omega
              · omega
            have hXs : ∀ {post : Int32 → SX → Prop}, (op (6 * M e + L e) = 0 → post (-1) ((nI nc), (nI nm), (nI nr), xnd, xmd, xnh, xlv, xq, xs, xbt, xft, (nI (e + 1)), (nI (s + 1)), xss, (nI (np + 1)), xtr, xsm, fc, (oF pa), xfs, ups, (nF hm), (nF na), br, (nF ln), (nF op), ic, ii, xdc, xfd, (nF rk), rc, rn, xqu, xwt, xsi, xtg, xnw, xfa, xsg, xnn, xtk, xrl, bop, bcl, bin, bsk, bme, bli, bou, xnf, xfm, (upd xfl e (nI (se_pos ln tg (M e) (L e) + 1))), xfh, (upd ou np (sc (6 * M e + L e))), xem, xel)) → (op (6 * M e + L e) = 1 → post (-1) ((nI nc), (nI nm), (nI nr), xnd, xmd, xnh, xlv, xq, xs, xbt, xft, (nI (e + 1)), (nI (s + 1)), xss, (nI np), xtr, xsm, fc, (oF pa), xfs, ups, (nF hm), (nF na), br, (nF ln), (nF op), ic, ii, xdc, xfd, (nF rk), rc, rn, xqu, xwt, xsi, xtg, xnw, xfa, xsg, xnn, xtk, xrl, bop, bcl, bin, bsk, bme, bli, bou, xnf, xfm, (upd xfl e (nI (se_pos ln tg (M e) (L e) + 1))), (upd xfh e (nI (cl (6 * M e + L e)))), ou, xem, xel)) → (op (6 * M e + L e) = 2 → rn_bel ups (H e) (cl (6 * M e + L e)) = false → post 2 ((nI nc), (nI nm), (nI nr), xnd, xmd, xnh, xlv, xq, xs, xbt, xft, (nI (e + 1)), (nI (s + 1)), xss, (nI np), xtr, xsm, fc, (oF pa), xfs, ups, (nF hm), (nF na), br, (nF ln), (nF op), ic, ii, xdc, xfd, (nF rk), rc, rn, xqu, xwt, xsi, xtg, xnw, xfa, xsg, xnn, xtk, xrl, bop, bcl, bin, bsk, bme, bli, bou, xnf, xfm, xfl, xfh, ou, xem, xel)) →
                ((op (6 * M e + L e) = 2 ∧ rn_bel ups (H e) (cl (6 * M e + L e)) = true ∨ op (6 * M e + L e) = 3) → rn_cN op cl nn fd nf N xlv (H e) (6 * M e + L e) = none → post 3 ((nI nc), (nI nm), (nI nr), xnd, xmd, xnh, xlv, xq, xs, xbt, xft, (nI (e + 1)), (nI (s + 1)), xss, (nI np), xtr, xsm, fc, (oF pa), xfs, ups, (nF hm), (nF na), br, (nF ln), (nF op), ic, ii, xdc, xfd, (nF rk), rc, rn, xqu, xwt, xsi, xtg, xnw, xfa, xsg, xnn, xtk, xrl, bop, bcl, bin, bsk, bme, bli, bou, xnf, xfm, xfl, xfh, ou, xem, xel)) → ((op (6 * M e + L e) = 2 ∧ rn_bel ups (H e) (cl (6 * M e + L e)) = true ∨ op (6 * M e + L e) = 3) → ∀ g, rn_cN op cl nn fd nf N xlv (H e) (6 * M e + L e) = some g → e + 1 = 8 → post 4 ((nI nc), (nI nm), (nI nr), xnd, xmd, xnh, xlv, xq, xs, xbt, xft, (nI (e + 1)), (nI (s + 1)), xss, (nI np), xtr, xsm, fc, (oF pa), xfs, ups, (nF hm), (nF na), br, (nF ln), (nF op), ic, ii, xdc, xfd, (nF rk), rc, rn, xqu, xwt, xsi, xtg, xnw, xfa, xsg, xnn, xtk, xrl, bop, bcl, bin, bsk, bme, bli, bou, xnf, xfm, xfl, xfh, ou, xem, xel)) →
                ((op (6 * M e + L e) = 2 ∧ rn_bel ups (H e) (cl (6 * M e + L e)) = true ∨ op (6 * M e + L e) = 3) → ∀ g, rn_cN op cl nn fd nf N xlv (H e) (6 * M e + L e) = some g → e + 1 < 8 → post (-1) ((nI nc), (nI nm), (nI nr), xnd, xmd, xnh, xlv, xq, xs, xbt, xft, (nI (e + 2)), (nI (s + 1)), xss, (nI np), xtr, xsm, fc, (oF pa), xfs, ups, (nF hm), (nF na), br, (nF ln), (nF op), ic, ii, xdc, xfd, (nF rk), rc, rn, xqu, xwt, xsi, xtg, xnw, xfa, xsg, xnn, xtk, xrl, bop, bcl, bin, bsk, bme, bli, bou, xnf, (upd xfm (e + 1) (nI g)), (upd xfl (e + 1) (nI 0)), (upd xfh (e + 1) (oI (H e))), ou, xem, xel)) →
                (op (6 * M e + L e) = 4 → post (-1) ((nI nc), (nI nm), (nI nr), xnd, xmd, xnh, xlv, xq, xs, xbt, xft, (nI (e + 1)), (nI (s + 1)), xss, (nI np), xtr, xsm, fc, (oF pa), xfs, ups, (nF hm), (nF na), br, (nF ln), (nF op), ic, ii, xdc, xfd, (nF rk), rc, rn, xqu, xwt, xsi, xtg, xnw, xfa, xsg, xnn, xtk, xrl, bop, bcl, bin, bsk, bme, bli, bou, xnf, xfm, (upd xfl e (nI (se_pos ln tg (M e) (L e) + if rn_bel ups (H e) (cl (6 * M e + L e)) = true then 1 else 1 + se_sk ln op tg (M e) (L e)))), xfh, ou, xem, xel)) → (op (6 * M e + L e) = 5 → post 1 ((nI nc), (nI nm), (nI nr), xnd, xmd, xnh, xlv, xq, xs, xbt, xft, (nI (e + 1)), (nI (s + 1)), xss, (nI np), xtr, xsm, fc, (oF pa), xfs, ups, (nF hm), (nF na), br, (nF ln), (nF op), ic, ii, xdc, xfd, (nF rk), rc, rn, xqu, xwt, xsi, xtg, xnw, xfa, xsg, xnn, xtk, xrl, bop, bcl, bin, bsk, bme, bli, bou, xnf, xfm, xfl, xfh, ou, xem, xel)) → wpX_stepAnew post ((nI nc), (nI nm), (nI nr), xnd, xmd, xnh, xlv, xq, xs, xbt, xft, (nI (e + 1)), (nI (s + 1)), xss, (nI np), xtr, xsm, fc, (oF pa), xfs, ups, (nF hm), (nF na), br, (nF ln), (nF op), ic, ii, xdc, xfd, (nF rk), rc, rn, xqu, xwt, xsi, xtg, xnw, xfa, xsg, xnn, xtk, xrl, bop, bcl, bin, bsk, bme, bli, bou, xnf, xfm, xfl, xfh, ou, xem, xel) (nI e) (nI (24 * M e + se_pos ln tg (M e) (L e))) := fun p1 p2 p3 p4 p5 p6 p7 p8 =>
              sx_stepH (d := e + 1) (s := s + 1) (np := np) (ou := ou) (h := H e) C MM I F W HX B10 B12 B13 (fun m hl => (B6 m hl).2) b1 hlt (fun o0 o5 => (B9 _ (hcc o0 o5)).2.2.1.mp (k7a o0 o5 (fun _ => et))) et (fun o23 g hg => by
                have hgs := k7b o23 et g hg
                have hgm := (sp_sound C MM F _ _ g (hcc (by omega) (by omega)) hg).1
                obtain ⟨q1, q2, _⟩ := B11 g hgm hgs
                exact ⟨q1, q2, fun o3 => k7c o3 et g hg⟩) hrow (by omega) hsk60 (by omega) hd8 hxl b5 b3 (by omega) p1 p2 p3 p4 p5 p6 p7 p8
            have hta1 : ∀ (v : Nat), v = se_pos ln tg (M e) (L e + 1) → rn_TA ln tg (M e) (un L e (L e + 1) e) (upd xfl e (nI v) e) := by
              intro v ev
              rw [un_s, pk_us, ev]
              rcases Nat.lt_or_ge (L e + 1) (ln (M e)) with y | y
              · exact Or.inl ⟨y, rfl⟩
              · have : L e + 1 = ln (M e) := by omega
                exact Or.inr ⟨y, by rw [this]⟩
            have hcall : (op (6 * M e + L e) = 2 ∧ rn_bel ups (H e) (cl (6 * M e + L e)) = true ∨ op (6 * M e + L e) = 3) → rn_out E (fun p => ∀ n, μ + 1 < n → rn_X p n (-1) ((nI nc), (nI nm), (nI nr), xnd, xmd, xnh, xlv, xq, xs, xbt, xft, (nI (e + 1)), (nI s), xss, (nI np), xtr, xsm, fc, (oF pa), xfs, ups, (nF hm), (nF na), br, (nF ln), (nF op), ic, ii, xdc, xfd, (nF rk), rc, rn, xqu, xwt, xsi, xtg, xnw, xfa, xsg, xnn, xtk, xrl, bop, bcl, bin, bsk, bme, bli, bou, xnf, xfm, xfl, xfh, ou, xem, xel)) (fun p => ∀ n, 2 * (μ + 1) + 2 < n → rn_Y p x1 n ((nI nc), (nI nm), (nI nr), ypl, ynd, ymd, ynh, ylv, ybt, (nI (e + 1)), (nI s), (nI np), (-1), fc, br, (oF pa), ups, yow, yma, (nF hm), (nF na), (nF ln), (nF op), fs, sc, (nF rk), rc, rn, yil, ynu, ynn, yfa, yvm, yvl, yvh, ou)) := by
              intro hop
              have o23 : op (6 * M e + L e) = 2 ∨ op (6 * M e + L e) = 3 := hop.imp (fun z => z.1) id
              have hnm : ∀ {Q : Prop}, op (6 * M e + L e) = 2 → rn_bel ups (H e) (cl (6 * M e + L e)) = false → Q := fun a b => absurd hop (hnot2 a b)
              obtain ⟨f1, f2, f3⟩ := hn5 o23
              obtain ⟨g, hg, _⟩ := hff o23
              have hcl := hcc (by omega) (by omega)
              have hgs := k7b o23 et g hg
              refine hcls _ hop (fun c hx c1 c2 c3 c4 => ?_)
              rw [hg] at c2
              have hgD : (some g).getD 0 = g := rfl
              rw [hgD, ← e2] at c2
              rw [et] at t8b
              have hYc : ∀ {post : SY → Prop}, (rn_lv ylv (nf c (nI (N g))) = none → post ((nI nc), (nI nm), (nI nr), ypl, ynd, ymd, ynh, ylv, ybt, (nI (e + 1)), (nI (s + 1)), (nI np), 3, fc, br, (oF pa), ups, yow, yma, (nF hm), (nF na), (nF ln), (nF op), fs, sc, (nF rk), rc, rn, yil, ynu, ynn, yfa, yvm, yvl, yvh, ou)) → (∀ g', rn_lv ylv (nf c (nI (N g))) = some g' → e + 1 = 8 → post ((nI nc), (nI nm), (nI nr), ypl, ynd, ymd, ynh, ylv, ybt, (nI (e + 1)), (nI (s + 1)), (nI np), 4, fc, br, (oF pa), ups, yow, yma, (nF hm), (nF na), (nF ln), (nF op), fs, sc, (nF rk), rc, rn, yil, ynu, ynn, yfa, yvm, yvl, yvh, ou)) → (∀ g', rn_lv ylv (nf c (nI (N g))) = some g' → e + 1 < 8 → post ((nI nc), (nI nm), (nI nr), ypl, ynd, ymd, ynh, ylv, ybt, (nI (e + 2)), (nI (s + 1)), (nI np), (-1), fc, br, (oF pa), ups, yow, yma, (nF hm), (nF na), (nF ln), (nF op), fs, sc, (nF rk), rc, rn, yil, ynu, ynn, yfa, (upd yvm (e + 1) (nI g')), (upd yvl (e + 1) (nI 0)), (upd yvh (e + 1) (oI (H e))), ou)) → wpY_step post ((nI nc), (nI nm), (nI nr), ypl, ynd, ymd, ynh, ylv, ybt, (nI (e + 1)), (nI (s + 1)), (nI np), (-1), fc, br, (oF pa), ups, yow, yma, (nF hm), (nF na), (nF ln), (nF op), fs, sc, (nF rk), rc, rn, yil, ynu, ynn, yfa, yvm, yvl, yvh, ou) 1 (nI e) (nI (6 * M e + L e)) := fun p3 p4 p5 =>
                c4 _ (sy_callN C MM F HnfY YN (by omega) hi c1 hcl f3 f2 (hn4 (by omega) (by omega)).2.1 hg (by rw [e3]; exact hgs) t8b c3 b8 p3 p4 p5)
              cases ec : rn_lv ylv (nf c (nI (N g))) with
              | none =>
                rw [ec] at c2
                exact hstop 3 (by decide) (by decide) (fun post hp => hXs (fun z => by omega) (fun z => by omega) (fun a b => hnm a b) (fun _ _ => hp) (fun _ g' z => by rw [← e2, c2] at z; cases z) (fun _ g' z => by rw [← e2, c2] at z; cases z) (fun z => by omega) (fun z => by omega)) (fun post hp => hYc (fun _ => hp) (fun g' z => by rw [ec] at z; cases z) (fun g' z => by rw [ec] at z; cases z))
              | some g' =>
                rw [ec] at c2
                obtain ⟨q1, q2⟩ := rn_lvI ec
                rw [e2] at q2
                have hg'm := sw_nfb C B12 c _ g' c1 q1
                rcases Nat.lt_or_ge (e + 1) 8 with h8 | h8
                · have hfr2 := rn_Bpush (v := nI 0) (h0 := H e) hg'm q2 b3 hlt et hxl hfr
                  refine rn_re (ihA (e + 1) (s + 1) np _ _ _ _ _ _ _ _ _ ou (by omega) (by omega) (by omega) (by omega) hfr2 ?_) (fun p hp => rn_XG (fun post hpp => hXg hs2 (hXs (fun z => by omega) (fun z => by omega) (fun a b => hnm a b) (fun _ z => by rw [← e2, c2] at z; cases z) (fun _ _ _ z => by omega) (fun _ g'' z _ => by rw [← e2, c2] at z; cases z; exact hpp) (fun z => by omega) (fun z => by omega))) hp) (fun p hp n hn => rn_YG hz rfl (fun post hpp => hYg hs2 (hYc (fun z => by rw [ec] at z; cases z) (fun _ _ z => by omega) (fun g'' z _ => by rw [ec] at z; cases z; exact hpp))) hp n (by omega))
                  rw [un_s, un_s, pk_us]
                  rcases Nat.eq_zero_or_pos (ln g') with y | y
                  · exact Or.inr ⟨by omega, by rw [y]; rfl⟩
                  · exact Or.inl ⟨y, rfl⟩
                · exact hstop 4 (by decide) (by decide) (fun post hp => hXs (fun z => by omega) (fun z => by omega) (fun a b => hnm a b) (fun _ z => by rw [← e2, c2] at z; cases z) (fun _ _ _ _ => hp) (fun _ _ _ z => by omega) (fun z => by omega) (fun z => by omega)) (fun post hp => hYc (fun z => by rw [ec] at z; cases z) (fun _ _ _ => hp) (fun _ _ z => by omega))
            have ho : op (6 * M e + L e) = 0 ∨ op (6 * M e + L e) = 1 ∨ op (6 * M e + L e) = 2 ∨ op (6 * M e + L e) = 3 ∨ op (6 * M e + L e) = 4 ∨ op (6 * M e + L e) = 5 := by omega
            rcases ho with o | o | o | o | o | o
            · exact rn_re (ihA e (s + 1) (np + 1) M _ H _ _ _ _ _ _ _ (by omega) hd8 (by omega) (by omega) (rn_Bline (l := L e + 1) (by omega) hfr) (hta1 _ hq1)) (fun p hp => rn_XG (fun post hpp => hXg hs2 (hXs (fun _ => hpp) (fun z => by omega) (fun z => by omega) (fun z => by omega) (fun z => by omega) (fun z => by omega) (fun z => by omega) (fun z => by omega))) hp) (fun p hp n hn => rn_YG hz rfl (fun post hpp => hYg hs2 (hYs (fun _ => hpp) (fun z => by omega) (fun z => by omega) (fun z => by omega) (fun z => by omega) (fun z => by omega) (fun z => by omega))) hp n (by omega))
            · exact rn_re (ihA e (s + 1) np M _ _ _ _ _ _ _ _ ou (by omega) hd8 (by omega) (by omega) (rn_Bnew (c := cl (6 * M e + L e)) (hcc (by omega) (by omega)) (rn_Bline (l := L e + 1) (by omega) hfr)) (hta1 _ hq1)) (fun p hp => rn_XG (fun post hpp => hXg hs2 (hXs (fun z => by omega) (fun _ => hpp) (fun z => by omega) (fun z => by omega) (fun z => by omega) (fun z => by omega) (fun z => by omega) (fun z => by omega))) hp) (fun p hp n hn => rn_YG hz rfl (fun post hpp => hYg hs2 (hYs (fun z => by omega) (fun _ => hpp) (fun z => by omega) (fun z => by omega) (fun z => by omega) (fun z => by omega) (fun z => by omega))) hp n (by omega))
            · cases hb : rn_bel ups (H e) (cl (6 * M e + L e)) with
              | false =>
                have hnot := hnot2 o hb
                exact hstop 2 (by decide) (by decide) (fun post hp => hXs (fun z => by omega) (fun z => by omega) (fun _ _ => hp) (fun z => absurd z hnot) (fun z => absurd z hnot) (fun z => absurd z hnot) (fun z => by omega) (fun z => by omega)) (fun post hp => hYs (fun z => by omega) (fun z => by omega) (fun _ _ => hp) (fun _ z => by rw [hb] at z; cases z) (fun z => by omega) (fun z => by omega) (fun z => by omega))
              | true => exact hcall (Or.inl ⟨o, hb⟩)
            · exact hcall (Or.inr o)
            · have hta4 : rn_TA ln tg (M e) (un L e (L e + if rn_bel ups (H e) (cl (6 * M e + L e)) = true then 1 else 2) e) (upd xfl e (nI (se_pos ln tg (M e) (L e) + if rn_bel ups (H e) (cl (6 * M e + L e)) = true then 1 else 1 + se_sk ln op tg (M e) (L e))) e) := by
                rw [un_s, pk_us]
                by_cases hb : rn_bel ups (H e) (cl (6 * M e + L e)) = true
                · rw [if_pos hb, if_pos hb, hq1]
                  rcases Nat.lt_or_ge (L e + 1) (ln (M e)) with y | y
                  · exact Or.inl ⟨y, rfl⟩
                  · have : L e + 1 = ln (M e) := by omega
                    exact Or.inr ⟨y, by rw [this]⟩
                · rw [if_neg hb, if_neg hb]
                  rcases Nat.lt_or_ge (L e + 1) (ln (M e)) with y | y
                  · have esk : se_sk ln op tg (M e) (L e) = se_gr ln tg (6 * M e + (L e + 1)) := if_pos ⟨o, y⟩
                    have hps2 := se_ps (ln := ln) (tg := tg) (M e) (L e + 1)
                    have hq2 : se_pos ln tg (M e) (L e) + (1 + se_sk ln op tg (M e) (L e)) = se_pos ln tg (M e) (L e + 2) := by
                      show _ = se_pos ln tg (M e) (L e + 1 + 1)
                      omega
                    rw [hq2]
                    rcases Nat.lt_or_ge (L e + 2) (ln (M e)) with w | w
                    · exact Or.inl ⟨w, rfl⟩
                    · have : L e + 2 = ln (M e) := by omega
                      exact Or.inr ⟨w, by rw [this]⟩
                  · have esk : se_sk ln op tg (M e) (L e) = 0 := if_neg (fun z => by omega)
                    have : L e + 1 = ln (M e) := by omega
                    refine Or.inr ⟨by omega, ?_⟩
                    rw [esk, Nat.add_zero, hq1, this]
              have hl8 : L e + (if rn_bel ups (H e) (cl (6 * M e + L e)) = true then 1 else 2) < 8 := by split <;> omega
              exact rn_re (ihA e (s + 1) np M _ H _ _ _ _ _ _ ou (by omega) hd8 (by omega) (by omega) (rn_Bline hl8 hfr) hta4) (fun p hp => rn_XG (fun post hpp => hXg hs2 (hXs (fun z => by omega) (fun z => by omega) (fun z => by omega) (fun z => by omega) (fun z => by omega) (fun z => by omega) (fun _ => hpp) (fun z => by omega))) hp) (fun p hp n hn => rn_YG hz rfl (fun post hpp => hYg hs2 (hYs (fun z => by omega) (fun z => by omega) (fun z => by omega) (fun z => by omega) (fun z => by omega) (fun _ => hpp) (fun z => by omega))) hp n (by omega))
            · exact hstop 1 (by decide) (by decide) (fun post hp => hXs (fun z => by omega) (fun z => by omega) (fun z => by omega) (fun z => by omega) (fun z => by omega) (fun z => by omega) (fun z => by omega) (fun _ => hp)) (fun post hp => hYs (fun z => by omega) (fun z => by omega) (fun z => by omega) (fun z => by omega) (fun z => by omega) (fun z => by omega) (fun _ => hp))
        · exact ⟨5, _, _, hE 5 (nI (e + 1)) (e + 1) s np M L xfm xfl xfh yvm yvl yvh ou hd8 (by omega) hfY, rn_XS (fun post hp => sx_goStep (by omega) (by omega) b4 hxl (by omega) (by omega) hs (Or.inr ⟨hsm, hrle⟩) hpl (fun _ => hp) (fun z => by omega) (fun z => by omega)) (by decide) (fun post hp => sx_noteN (P := fun j => se_pos ln tg (M j) (L j)) hd8 hsm hfX hp) (by omega), rn_YS (r := 5) hz rfl (fun post hp => sy_goStep (by omega) (by omega) b6 b7 (by omega) (by omega) hs hlt (fun _ => hp) (fun z => by omega)) rfl (show (0 : Int32) ≤ 5 by decide) (by omega)⟩
      · -- an invocation is through
        have hX' : ∀ f, e = f + 1 → ∃ l', xfl f = nI l' ∧ l' < 127 := fun f ef => ⟨_, (hlowX f (by omega)).2.1, by have := (hlowX f (by omega)).2.2.2.1; omega⟩
        have hY' : ∀ f, e = f + 1 → ∃ l', yvl f = nI l' ∧ l' < 127 := fun f ef => ⟨L f, (hfY f (by omega)).2, by have := (hlowX f (by omega)).2.2.2.2.1; omega⟩
        rcases Nat.eq_zero_or_pos e with e0 | epos
        · refine ⟨0, _, _, hE 0 (nI 0) 0 s np M L xfm xfl xfh yvm yvl yvh ou (by omega) (by omega) (fun j hj => by omega), rn_XS (fun post hp => sx_goPop (by omega) (by omega) b4 hxl (by omega) (by omega) (Or.inr ⟨hsm, hrle⟩) (Nat.le_refl _) (fun _ => hp) (fun f _ ef => by omega) hX') (by decide) (fun post hp => sx_noteN (d := 0) (P := fun j => se_pos ln tg (M j) (L j)) (by omega) hsm (fun j hj => by omega) hp) (by omega), fun p hp n hn => ?_⟩
          exact rn_YG hz rfl (fun post hpp => sy_goPop (by omega) (by omega) b6 b7 (by omega) (by omega) hge (fun _ => hpp) (fun f _ ef => by omega) hY') (rn_YS (μ := 1) (r := 0) hz rfl (fun post hpp => sy_goDone hpp) rfl (show (0 : Int32) ≤ 0 by decide) (by omega) p hp) n (by omega)
        · obtain ⟨f, rfl⟩ : ∃ f, e = f + 1 := ⟨e - 1, by omega⟩
          obtain ⟨c1, c2, _, _, _, _, _, _, _, c10⟩ := hfr f (by omega)
          obtain ⟨q1, q2, q3⟩ := c10 (by omega)
          have hps := se_ps (ln := ln) (tg := tg) (M f) (L f)
          have eg : se_gr ln tg (6 * M f + L f) = 1 := by unfold se_gr; rw [q2]
          have hq1 : se_pos ln tg (M f) (L f) + 1 = se_pos ln tg (M f) (L f + 1) := by omega
          have hpl := hposlt _ _ q1
          have hp24 := h24 _ c1
          refine rn_re (ihA f s np M _ H _ _ _ _ _ _ ou (by omega) (by omega) hs hnp (rn_Bpop (v := nI (se_pos ln tg (M f) (L f) + 1)) hln hfr) ?_) (fun p hp => rn_XG (fun post hpp => sx_goPop (by omega) (by omega) b4 hxl (by omega) (by omega) (Or.inr ⟨hsm, hrle⟩) (Nat.le_refl _) (fun z => by omega) (fun f' l' ef el hl' => ?_) hX') hp) (fun p hp n hn => rn_YG hz rfl (fun post hpp => sy_goPop (by omega) (by omega) b6 b7 (by omega) (by omega) hge (fun z => by omega) (fun f' l' ef el hl' => ?_) hY') hp n (by omega))
          · rw [un_s, pk_us, hq1]
            rcases Nat.lt_or_ge (L f + 1) (ln (M f)) with y | y
            · exact Or.inl ⟨y, rfl⟩
            · have : L f + 1 = ln (M f) := by omega
              exact Or.inr ⟨y, by rw [this]⟩
          · have : f' = f := by omega
            subst this
            rw [q3] at el
            rw [← sd_inj (by omega) (by omega) el]; exact hpp
          · have : f' = f := by omega
            subst this
            have q := (hfY f' (by omega)).2
            have hq := (hlowX f' (by omega)).2.2.2.2.1
            rw [q] at el
            rw [← sd_inj (by omega) (by omega) el]; exact hpp
    · intro e s np t M L H xfm xfl xfh yvm yvl yvh ou hμ hd8 hs hnp hfr hlt et hMt hLt hxl hym hyl hyh
      obtain ⟨b1, b2, b3, b4, b5, b6, b7, b8, b9, _⟩ := hfr e (by omega)
      have hl6 := hln _ b1
      have hB24 := h24 _ b1
      have hrle := hrl _ b1 b2
      obtain ⟨t1, t2, o23⟩ := (B8 (6 * M e + L e) (by omega)).2.2 t et
      have hl3 := t2.1
      have eg : se_gr ln tg (6 * M e + L e) = 1 + ln t := by unfold se_gr; rw [et]
      have hps := se_ps (ln := ln) (tg := tg) (M e) (L e)
      have hmo := se_mono' (ln := ln) (tg := tg) (m := M e) (show L e + 1 ≤ ln (M e) by omega)
      have hpl : se_pos ln tg (M e) (L e) + 1 + L (e + 1) < se_pos ln tg (M e) (ln (M e)) := by omega
      have o05 := t2.2 (L (e + 1)) hLt
      have hrowI := (B14 (M e) (L e) b1 b2 hlt).2 t (L (e + 1)) et hLt
      have hrowI2 : se_inn op ii t (L (e + 1)) (L e) (24 * M e + (se_pos ln tg (M e) (L e) + 1 + L (e + 1))) bop bcl bin bme bli bou := by
        have : 24 * M e + (se_pos ln tg (M e) (L e) + 1 + L (e + 1)) = 24 * M e + se_pos ln tg (M e) (L e) + 1 + L (e + 1) := by omega
        rw [this]; exact hrowI
      have hfY : ∀ j, j < e + 2 → yvm j = nI (M j) ∧ yvl j = nI (L j) := fun j hj => by
        by_cases z : j = e + 1
        · rw [z, hMt]; exact ⟨hym, hyl⟩
        · obtain ⟨_, _, _, _, _, c6, c7, _⟩ := hfr j (by omega)
          exact ⟨c6, c7⟩
      have hlowX : ∀ j, j < e → xfm j = nI (M j) ∧ xfl j = nI (se_pos ln tg (M j) (L j)) ∧ M j < 30 ∧ se_pos ln tg (M j) (L j) < 24 ∧ L j < 24 ∧ rn_tr bme bli bou (M j) (se_pos ln tg (M j) (L j)) (L j) := fun j hj => by
        obtain ⟨c1, c2, _, c4, _, _, _, _, c9, c10⟩ := hfr j (by omega)
        obtain ⟨q1, q2, q3⟩ := c10 (by omega)
        have q4 := hposlt (M j) (L j) q1
        have q5 := h24 _ c1
        exact ⟨c4, q3, by omega, by omega, by omega, htrow _ _ c1 c2 q1⟩
      have hnote : ∀ (s' : Nat) (r : Int32) (post : SX → Prop), post ((nI nc), (nI nm), (nI nr), xnd, xmd, xnh, xlv, xq, xs, xbt, xft, (nI (e + 1)), (nI s'), r, (nI np), (nI (e + 2)), xsm, fc, (oF pa), xfs, ups, (nF hm), (nF na), br, (nF ln), (nF op), ic, ii, xdc, xfd, (nF rk), rc, rn, xqu, xwt, xsi, xtg, xnw, xfa, xsg, xnn, xtk, xrl, bop, bcl, bin, bsk, bme, bli, bou, xnf, xfm, xfl, xfh, ou, (rn_em xem M (e + 2) 0), (rn_em xel L (e + 2) 0)) → wpX_note post ((nI nc), (nI nm), (nI nr), xnd, xmd, xnh, xlv, xq, xs, xbt, xft, (nI (e + 1)), (nI s'), r, (nI np), xtr, xsm, fc, (oF pa), xfs, ups, (nF hm), (nF na), br, (nF ln), (nF op), ic, ii, xdc, xfd, (nF rk), rc, rn, xqu, xwt, xsi, xtg, xnw, xfa, xsg, xnn, xtk, xrl, bop, bcl, bin, bsk, bme, bli, bou, xnf, xfm, xfl, xfh, ou, xem, xel) := fun s' r post hp => by
        obtain ⟨_, _, _, r4, r5, r6⟩ := hrowI2
        exact sx_noteI (P := fun j => se_pos ln tg (M j) (L j)) hd8 hsm hlowX b4 hxl (by omega) (by omega) (by omega) (by omega) (by omega) (by rw [hMt]; exact r4) r5 r6 hp
      rcases Nat.lt_or_ge s 200 with hs2 | hs2
      · have Ii := I t (L (e + 1)) t1 hLt
        have hXg : ∀ {post : Int32 → SX → Prop}, wpX_stepAnew post ((nI nc), (nI nm), (nI nr), xnd, xmd, xnh, xlv, xq, xs, xbt, xft, (nI (e + 1)), (nI (s + 1)), xss, (nI np), xtr, xsm, fc, (oF pa), xfs, ups, (nF hm), (nF na), br, (nF ln), (nF op), ic, ii, xdc, xfd, (nF rk), rc, rn, xqu, xwt, xsi, xtg, xnw, xfa, xsg, xnn, xtk, xrl, bop, bcl, bin, bsk, bme, bli, bou, xnf, xfm, xfl, xfh, ou, xem, xel) (nI e) (nI (24 * M e + (se_pos ln tg (M e) (L e) + 1 + L (e + 1)))) → wpX_go post ((nI nc), (nI nm), (nI nr), xnd, xmd, xnh, xlv, xq, xs, xbt, xft, (nI (e + 1)), (nI s), xss, (nI np), xtr, xsm, fc, (oF pa), xfs, ups, (nF hm), (nF na), br, (nF ln), (nF op), ic, ii, xdc, xfd, (nF rk), rc, rn, xqu, xwt, xsi, xtg, xnw, xfa, xsg, xnn, xtk, xrl, bop, bcl, bin, bsk, bme, bli, bou, xnf, xfm, xfl, xfh, ou, xem, xel) := fun h =>
          sx_goStep (by omega) (by omega) b4 hxl (by omega) (by omega) hs (Or.inr ⟨hsm, hrle⟩) hpl (fun z => by omega) (fun _ z => absurd z hsm) (fun _ _ => h)
        have hYg : ∀ {post : SY → Prop}, wpY_step post ((nI nc), (nI nm), (nI nr), ypl, ynd, ymd, ynh, ylv, ybt, (nI (e + 2)), (nI (s + 1)), (nI np), (-1), fc, br, (oF pa), ups, yow, yma, (nF hm), (nF na), (nF ln), (nF op), fs, sc, (nF rk), rc, rn, yil, ynu, ynn, yfa, yvm, yvl, yvh, ou) 1 (nI (e + 1)) (nI (6 * t + L (e + 1))) → wpY_goOn post ((nI nc), (nI nm), (nI nr), ypl, ynd, ymd, ynh, ylv, ybt, (nI (e + 2)), (nI s), (nI np), (-1), fc, br, (oF pa), ups, yow, yma, (nF hm), (nF na), (nF ln), (nF op), fs, sc, (nF rk), rc, rn, yil, ynu, ynn, yfa, yvm, yvl, yvh, ou) 1 := fun h =>
          sy_goStep (e := e + 1) (by omega) (by omega) hym hyl (by omega) (by omega) hs hLt (fun z => by omega) (fun _ => h)
        rcases o05 with o0 | o5
        · have hXp : ∀ post : Int32 → SX → Prop, post (-1) ((nI nc), (nI nm), (nI nr), xnd, xmd, xnh, xlv, xq, xs, xbt, xft, (nI (e + 1)), (nI (s + 1)), xss, (nI (np + 1)), xtr, xsm, fc, (oF pa), xfs, ups, (nF hm), (nF na), br, (nF ln), (nF op), ic, ii, xdc, xfd, (nF rk), rc, rn, xqu, xwt, xsi, xtg, xnw, xfa, xsg, xnn, xtk, xrl, bop, bcl, bin, bsk, bme, bli, bou, xnf, xfm, (upd xfl e (nI (se_pos ln tg (M e) (L e) + 1 + L (e + 1) + 1))), xfh, (upd ou np (sc (6 * t + L (e + 1)))), xem, xel) → wpX_go post ((nI nc), (nI nm), (nI nr), xnd, xmd, xnh, xlv, xq, xs, xbt, xft, (nI (e + 1)), (nI s), xss, (nI np), xtr, xsm, fc, (oF pa), xfs, ups, (nF hm), (nF na), br, (nF ln), (nF op), ic, ii, xdc, xfd, (nF rk), rc, rn, xqu, xwt, xsi, xtg, xnw, xfa, xsg, xnn, xtk, xrl, bop, bcl, bin, bsk, bme, bli, bou, xnf, xfm, xfl, xfh, ou, xem, xel) := fun post hp =>
            hXg (sx_stepI (d := e + 1) (s := s + 1) (np := np) (ou := ou) h10 HX B10 Ii (Or.inl o0) hrowI2 (by omega) (by omega) (by omega) hxl (by omega) (fun _ => hp) (fun z => by omega))
          have hYp : ∀ post : SY → Prop, post ((nI nc), (nI nm), (nI nr), ypl, ynd, ymd, ynh, ylv, ybt, (nI (e + 2)), (nI (s + 1)), (nI (np + 1)), (-1), fc, br, (oF pa), ups, yow, yma, (nF hm), (nF na), (nF ln), (nF op), fs, sc, (nF rk), rc, rn, yil, ynu, ynn, yfa, yvm, (upd yvl (e + 1) (nI (L (e + 1) + 1))), yvh, (upd ou np (sc (6 * t + L (e + 1))))) → wpY_goOn post ((nI nc), (nI nm), (nI nr), ypl, ynd, ymd, ynh, ylv, ybt, (nI (e + 2)), (nI s), (nI np), (-1), fc, br, (oF pa), ups, yow, yma, (nF hm), (nF na), (nF ln), (nF op), fs, sc, (nF rk), rc, rn, yil, ynu, ynn, yfa, yvm, yvl, yvh, ou) 1 := fun post hp =>
            hYg (sy_step (d := e + 2) (s := s + 1) (np := np) (ou := ou) (l := L (e + 1)) (h := H e) (yen := -1) (by omega) (by omega) Ii hyl (by omega) hyh (fun x ex => by have := b3 x ex; omega) (by omega) (fun _ => hp) (fun z => by omega) (fun z => by omega) (fun z => by omega) (fun z => by omega) (fun z => by omega) (fun z => by omega))
          rcases Nat.lt_or_ge (L (e + 1) + 1) (ln t) with y | y
          · refine rn_re (ihB e (s + 1) (np + 1) t M (un L (e + 1) (L (e + 1) + 1)) H xfm (upd xfl e (nI (se_pos ln tg (M e) (L e) + 1 + L (e + 1) + 1))) xfh yvm (upd yvl (e + 1) (nI (L (e + 1) + 1))) yvh _ (by omega) hd8 (by omega) (by omega) (rn_Bext hfr (fun j hj => ⟨rfl, un_n (by omega), rfl, rfl, rfl, rfl, pk_un (by omega), rfl⟩) (fun j hj => pk_un (by omega))) ?_ ?_ hMt ?_ ?_ hym ?_ hyh) (fun p hp => rn_XG hXp hp) (fun p hp n hn => rn_YG hz rfl hYp hp n (by omega))
            · rw [un_n (by omega)]; exact hlt
            · rw [un_n (by omega)]; exact et
            · rw [un_s]; exact y
            · rw [pk_us, un_n (by omega), un_s]; rfl
            · rw [pk_us, un_s]
          · have hq1 : se_pos ln tg (M e) (L e) + 1 + L (e + 1) + 1 = se_pos ln tg (M e) (L e + 1) := by omega
            have hfr2 : rn_B nc nm ln tg xlv (e + 1) M (un L e (L e + 1)) H xfm (upd xfl e (nI (se_pos ln tg (M e) (L e) + 1 + L (e + 1) + 1))) xfh yvm (upd (upd yvl (e + 1) (nI (L (e + 1) + 1))) e (nI (L e + 1))) yvh :=
              rn_Bline (by omega) (rn_Bext hfr (fun j hj => ⟨rfl, rfl, rfl, rfl, rfl, rfl, pk_un (by omega), rfl⟩) (fun j hj => rfl))
            refine rn_re (ihA e (s + 1) (np + 1) M _ H _ _ _ _ _ _ _ (by omega) (by omega) (by omega) (by omega) hfr2 ?_) (fun p hp => rn_XG hXp hp) (fun p hp n hn => rn_YG hz rfl hYp (rn_YG (μ := 2 * μ + 2) hz rfl (fun post hpp => sy_goPop (e := e + 1) (m := t) (l := L (e + 1) + 1) (by omega) (by omega) hym pk_us (by omega) (by omega) y (fun z => by omega) (fun f l' ef el hl' => ?_) (fun f ef => ?_)) hp) n (by omega))
            · rw [un_s, pk_us, hq1]
              rcases Nat.lt_or_ge (L e + 1) (ln (M e)) with w | w
              · exact Or.inl ⟨w, rfl⟩
              · have : L e + 1 = ln (M e) := by omega
                exact Or.inr ⟨w, by rw [this]⟩
            · have : f = e := by omega
              subst this
              rw [pk_un (by omega), b7] at el
              rw [← sd_inj (by omega) (by omega) el]; exact hpp
            · have : f = e := by omega
              subst this
              exact ⟨L f, by rw [pk_un (by omega)]; exact b7, by omega⟩
        · exact ⟨1, _, _, hE 1 (nI (e + 1)) (e + 2) (s + 1) np M L xfm xfl xfh yvm yvl yvh ou hd8 (by omega) hfY, rn_XS (fun post hp => hXg (sx_stepI (d := e + 1) (s := s + 1) (np := np) (ou := ou) h10 HX B10 Ii (Or.inr o5) hrowI2 (by omega) (by omega) (by omega) hxl (by omega) (fun z => by omega) (fun _ => hp))) (by decide) (fun post hp => hnote (s + 1) 1 post hp) (by omega), rn_YS (r := 1) hz rfl (fun post hp => hYg (sy_step (d := e + 2) (s := s + 1) (np := np) (ou := ou) (l := L (e + 1)) (h := H e) (yen := -1) (by omega) (by omega) Ii hyl (by omega) hyh (fun x ex => by have := b3 x ex; omega) (by omega) (fun z => by omega) (fun z => by omega) (fun z => by omega) (fun z => by omega) (fun z => by omega) (fun z => by omega) (fun _ => hp))) rfl (show (0 : Int32) ≤ 1 by decide) (by omega)⟩
      · exact ⟨5, _, _, hE 5 (nI (e + 1)) (e + 2) s np M L xfm xfl xfh yvm yvl yvh ou hd8 (by omega) hfY, rn_XS (fun post hp => sx_goStep (by omega) (by omega) b4 hxl (by omega) (by omega) hs (Or.inr ⟨hsm, hrle⟩) hpl (fun _ => hp) (fun z => by omega) (fun z => by omega)) (by decide) (fun post hp => hnote s 5 post hp) (by omega), rn_YS (r := 5) hz rfl (fun post hp => sy_goStep (e := e + 1) (by omega) (by omega) hym hyl (by omega) (by omega) hs hLt (fun _ => hp) (fun z => by omega)) rfl (show (0 : Int32) ≤ 5 by decide) (by omega)⟩
end
end
section
/-! runs: the call -/
theorem rl_runI {np d : Nat} {M L : Nat → Nat} {xem xel yvm yvl : Nat → Int32} (h1 : np ≤ 200) (h2 : d ≤ 8) (h : ∀ j, j < d → yvm j = nI (M j) ∧ yvl j = nI (L j)) : rl_run np d (rn_em xem M d 0) (rn_em xel L d 0) yvm yvl := by
  refine ⟨h1, h2, fun k hk => ?_⟩
  obtain ⟨a, b⟩ := h (d - 1 - k) (by omega)
  unfold rn_em
  rw [if_pos (by omega), if_pos (by omega), a, b]
  exact ⟨rfl, rfl⟩
section
variable {nc nm nr : Nat} {pa : Nat → Option Nat} {hm na ln op rk cl nn : Nat → Nat} {fc ups br ic ii fs sc rc rn : Nat → Int32} {dc fd : Nat → Nat → Option Nat}
variable {xnd xmd xnh xlv xq xs xbt xft xdp xst xss xpt xtr xsm : Int32} {xfs xdc xfd xqu xwt xsi xtg xnw xfa xsg xnn xtk xrl bop bcl bin bsk bme bli bou xnf xfm xfl xfh xou xem xel : Nat → Int32}
variable {ypl ynd ymd ynh ylv ybt ydp yst yot yen : Int32} {yow yma yil ynu ynn yfa yvm yvl yvh ypu : Nat → Int32}
theorem sx_run111 {post : Int32 → SX → Prop} {m z : Nat} (hz : z < 2) (hm' : m < 30) (h : ∃ n, rn_X post n (-1) ((nI nc), (nI nm), (nI nr), xnd, xmd, xnh, xlv, xq, xs, xbt, xft, (nI 1), (nI 0), (-1), (nI 0), xtr, (nI z), fc, (oF pa), xfs, ups, (nF hm), (nF na), br, (nF ln), (nF op), ic, ii, xdc, xfd, (nF rk), rc, rn, xqu, xwt, xsi, xtg, xnw, xfa, xsg, xnn, xtk, xrl, bop, bcl, bin, bsk, bme, bli, bou, xnf, (upd xfm 0 (nI m)), (upd xfl 0 (nI 0)), (upd xfh 0 (oI none)), xou, xem, xel)) : wX_run_111 post (nI m) (nI z) (nI nc) (nI nm) (nI nr) xnd xmd xnh xlv xq xs xbt xft xdp xst xss xpt xtr xsm fc (oF pa) xfs ups (nF hm) (nF na) br (nF ln) (nF op) ic ii xdc xfd (nF rk) rc rn xqu xwt xsi xtg xnw xfa xsg xnn xtk xrl bop bcl bin bsk bme bli bou xnf xfm xfl xfh xou xem xel := by
  have hn : narrow .boolean (.int (nI z)) = .int (nI z) ∧ fits .boolean (.int (nI z)) = true := by
    have : z = 0 ∨ z = 1 := by omega
    rcases this with e | e <;> rw [e]
    · exact ⟨narrow_b0, rfl⟩
    · exact ⟨narrow_b1, rfl⟩
  unfold wX_run_111
  exact ⟨hn.1, hn.2, sx_invoke (d := 0) (s := 0) (np := 0) (h := none) (by omega) hm' (fun x e => by cases e) h⟩
theorem sy_run118 {post : Int32 → SY → Prop} {m z : Nat} (hz : z < 2) (hm' : m < 30) (h : ∃ n, rn_Y post (nI z) n ((nI nc), (nI nm), (nI nr), ypl, ynd, ymd, ynh, ylv, ybt, (nI 1), (nI 0), (nI 0), (-1), fc, br, (oF pa), ups, yow, yma, (nF hm), (nF na), (nF ln), (nF op), fs, sc, (nF rk), rc, rn, yil, ynu, ynn, yfa, (upd yvm 0 (nI m)), (upd yvl 0 (nI 0)), (upd yvh 0 (oI none)), ypu)) : wY_run_118 post (nI z) (nI m) (nI nc) (nI nm) (nI nr) ypl ynd ymd ynh ylv ybt ydp yst yot yen fc br (oF pa) ups yow yma (nF hm) (nF na) (nF ln) (nF op) fs sc (nF rk) rc rn yil ynu ynn yfa yvm yvl yvh ypu := by
  unfold wY_run_118
  exact yw_t (sd_wi (n := 2) hz (by decide)) (br_t (nI_pos' (by omega)) (sy_begin (d := 0) (s := 0) (np := 0) (h := none) (by omega) (fun e => by omega) (fun _ => h)))
theorem sy_run118n {post : Int32 → SY → Prop} {x1 : Int32} (h : post (-1) ((nI nc), (nI nm), (nI nr), ypl, ynd, ymd, ynh, ylv, ybt, ydp, yst, yot, yen, fc, br, (oF pa), ups, yow, yma, (nF hm), (nF na), (nF ln), (nF op), fs, sc, (nF rk), rc, rn, yil, ynu, ynn, yfa, yvm, yvl, yvh, ypu)) : wY_run_118 post x1 (-1) (nI nc) (nI nm) (nI nr) ypl ynd ymd ynh ylv ybt ydp yst yot yen fc br (oF pa) ups yow yma (nF hm) (nF na) (nF ln) (nF op) fs sc (nF rk) rc rn yil ynu ynn yfa yvm yvl yvh ypu := by
  unfold wY_run_118
  exact yw_b (fun _ => h) (fun _ => br_f (by decide) h)
end
theorem i_vc_run {k : Nat} {u : SX} {v : SY} (I : i_Rel k u v) (hk : k + 5 ≤ 2560) (v1 : Int32) (v2 : Int32) (v3 : Int32) : wpX_run (fun r u' => wpY_run (fun r' v' => r' = r ∧ i_Rel (k + 5) u' v') v v1 v2 v3) u v1 v2 v3 := by
  refine zz_el (P := fun u v => wpX_run (fun r u' => wpY_run (fun r' v' => r' = r ∧ i_Rel (k + 5) u' v') v v1 v2 v3) u v1 v2 v3) ?_ I
  intro nc nm nr np dp pa hm na ln op rk cl nn dc xnd xmd xnh xlv xq xs bl ft xdp sp xss xsm fc xfs ups br ic ii xdc xfd rc rn xqu xwt xsi xtg xnw xfa xsg xnn xtk xrl bop bcl bin bsk bme bli bou xnf xfm xfl xfh ou xem xel ynd ymd ynh ylv yen yow yma fs sc yil ynu ynn yfa yvm yvl yvh F0 F1 F2 F3 F4 F5 F6 F7
  have Z : i_Rel (k + 5) ((nI nc), (nI nm), (nI nr), xnd, xmd, xnh, xlv, xq, xs, bl, ft, xdp, sp, xss, (nI np), (nI dp), xsm, fc, (oF pa), xfs, ups, (nF hm), (nF na), br, (nF ln), (nF op), ic, ii, xdc, xfd, (nF rk), rc, rn, xqu, xwt, xsi, xtg, xnw, xfa, xsg, xnn, xtk, xrl, bop, bcl, bin, bsk, bme, bli, bou, xnf, xfm, xfl, xfh, ou, xem, xel) ((nI nc), (nI nm), (nI nr), ft, ynd, ymd, ynh, ylv, bl, (nI dp), sp, (nI np), yen, fc, br, (oF pa), ups, yow, yma, (nF hm), (nF na), (nF ln), (nF op), fs, sc, (nF rk), rc, rn, yil, ynu, ynn, yfa, yvm, yvl, yvh, ou) := zz_in F0 F1 F2 F3 F4 F5 F6 F7
  have h10 := F0.1
  have h30 := F1.1
  unfold wpX_run
  dsimp only
  refine br_c (fun e0 => ?_) (fun e0 => br_c (fun e1 => ?_) (fun e1 => ?_))
  · -- the program as it was
    subst e0
    have hfd : ∃ fd, sp_fd nc pa fc ups hm dc fd ∧ ∀ xfd : Nat → Int32, (∀ a b, a < nc → b < 10 → xfd (10 * a + b) = oI (fd a b)) → (bl = 0 ∨ bl = 1 ∧ ynd = xnd ∧ ylv = xlv ∧ (ynh ||| ylv) = (xlv ||| xnh) ∧ rl_B nc nm pa hm ln op cl nn fc ups br ii dc xnd (xlv ||| xnh) xlv xfd xtg xnw xnn xrl bop bcl bin bsk bme bli bou xnf yil ynu ynn yfa) := by
      rcases F7 with e | ⟨e, q1, q2, q3, B⟩
      · obtain ⟨fd, h⟩ := sp_fdx (hm := hm) (dc := dc) F0
        exact ⟨fd, h, fun _ _ => Or.inl e⟩
      · obtain ⟨fd, tg, nw, N, nf, B1, B2, B3, B4, B5, B6, B7, B8, B9, B10, B11, B12, B13, B14, B15⟩ := B
        exact ⟨fd, B1, fun xfd A => Or.inr ⟨e, q1, q2, q3, fd, tg, nw, N, nf, B1, B2, A, B4, B5, B6, B7, B8, B9, B10, B11, B12, B13, B14, B15⟩⟩
    obtain ⟨fd, hfd, hF7⟩ := hfd
    have hZ : ∀ xfd : Nat → Int32, (∀ a b, a < nc → b < 10 → xfd (10 * a + b) = oI (fd a b)) → i_Rel (k + 5) ((nI nc), (nI nm), (nI nr), xnd, xmd, xnh, xlv, xq, xs, bl, ft, xdp, sp, xss, (nI np), (nI dp), xsm, fc, (oF pa), xfs, ups, (nF hm), (nF na), br, (nF ln), (nF op), ic, ii, xdc, xfd, (nF rk), rc, rn, xqu, xwt, xsi, xtg, xnw, xfa, xsg, xnn, xtk, xrl, bop, bcl, bin, bsk, bme, bli, bou, xnf, xfm, xfl, xfh, ou, xem, xel) ((nI nc), (nI nm), (nI nr), ft, ynd, ymd, ynh, ylv, bl, (nI dp), sp, (nI np), yen, fc, br, (oF pa), ups, yow, yma, (nF hm), (nF na), (nF ln), (nF op), fs, sc, (nF rk), rc, rn, yil, ynu, ynn, yfa, yvm, yvl, yvh, ou) := fun xfd A => zz_in F0 F1 F2 F3 F4 F5 F6 (hF7 xfd A)
    unfold wpX_beginning
    dsimp only
    refine sx_check F0 F1 F2 hfd F4 (fun m i xfd A hb => ?_) (fun xfd A hok => ?_)
    · dsimp only
      have h4 := sp_wr3 nc fc br op cl nn fd (6 * m + i)
      have hne : ¬ nI (sp_wr nc fc br op cl nn fd (6 * m + i)) = 0 := nI_ne0 (Nat.pos_of_ne_zero hb.2.2.1) (by omega)
      refine br_f hne ?_
      unfold wX_run_93
      refine br_f (by decide) ?_
      unfold wpY_run
      dsimp only
      refine br_t rfl (sy_examine F0 F1 F2 hfd (fun m' i' hb' => ?_) (fun hok => absurd (hok m i hb.1 hb.2.1) hb.2.2.1))
      obtain ⟨q1, q2⟩ := sp_badU (fun m hm' => (F1.2.1 m hm').2.2.1) hb hb'
      rw [← q1, ← q2]
      dsimp only
      unfold wY_run_29
      have h79 : ∀ z0, wY_run_79 (fun r' v' => r' = -1 ∧ i_Rel (k + 5) ((nI nc), (nI nm), (nI nr), xnd, xmd, xnh, xlv, xq, xs, bl, ft, xdp, sp, xss, (nI np), (nI dp), xsm, fc, (oF pa), xfs, ups, (nF hm), (nF na), br, (nF ln), (nF op), ic, ii, xdc, xfd, (nF rk), rc, rn, xqu, xwt, xsi, xtg, xnw, xfa, xsg, xnn, xtk, xrl, bop, bcl, bin, bsk, bme, bli, bou, xnf, xfm, xfl, xfh, ou, xem, xel) v') 0 v3 ft (nI (sp_wr nc fc br op cl nn fd (6 * m + i))) z0 (nI nc) (nI nm) (nI nr) (nI (8 * m + i)) ynd ymd ynh ylv bl (nI dp) sp (nI np) yen fc br (oF pa) ups yow yma (nF hm) (nF na) (nF ln) (nF op) fs sc (nF rk) rc rn yil ynu ynn yfa yvm yvl yvh ou := fun z0 => by
        unfold wY_run_79
        exact br_f hne (sy_run118n ⟨rfl, hZ xfd A⟩)
      exact br_t rfl (yw_b (fun _ => h79 _) (fun _ => h79 _))
    · dsimp only
      refine br_t rfl ?_
      have hY29 : ∀ {post : Int32 → SY → Prop}, (¬ (0 ≤ v2 ∧ v2 < nI nc) → post (-1) ((nI nc), (nI nm), (nI nr), ft, ynd, ymd, ynh, ylv, bl, (nI dp), sp, (nI np), yen, fc, br, (oF pa), ups, yow, yma, (nF hm), (nF na), (nF ln), (nF op), fs, sc, (nF rk), rc, rn, yil, ynu, ynn, yfa, yvm, yvl, yvh, ou)) → (∀ c, v2 = nI c → c < nc → wpY_found (fun r => wY_run_118 post 0 r (nI nc) (nI nm) (nI nr) ft ynd ymd ynh ylv bl (nI dp) sp (nI np) yen fc br (oF pa) ups yow yma (nF hm) (nF na) (nF ln) (nF op) fs sc (nF rk) rc rn yil ynu ynn yfa yvm yvl yvh ou) ((nI nc), (nI nm), (nI nr), ft, ynd, ymd, ynh, ylv, bl, (nI dp), sp, (nI np), yen, fc, br, (oF pa), ups, yow, yma, (nF hm), (nF na), (nF ln), (nF op), fs, sc, (nF rk), rc, rn, yil, ynu, ynn, yfa, yvm, yvl, yvh, ou) 0 (nI c) v3) → wpY_run post ((nI nc), (nI nm), (nI nr), ft, ynd, ymd, ynh, ylv, bl, (nI dp), sp, (nI np), yen, fc, br, (oF pa), ups, yow, yma, (nF hm), (nF na), (nF ln), (nF op), fs, sc, (nF rk), rc, rn, yil, ynu, ynn, yfa, yvm, yvl, yvh, ou) 0 v2 v3 := by
        intro post p1 p2
        unfold wpY_run
        dsimp only
        refine br_t rfl (sy_examine F0 F1 F2 hfd (fun m' i' hb' => absurd (hok m' i' hb'.1 hb'.2.1) hb'.2.2.1) (fun _ => ?_))
        dsimp only
        unfold wY_run_29
        refine br_t rfl (yw_b (fun w => ?_) (fun w => ?_))
        · unfold wY_run_79
          exact br_t rfl (br_f (by decide) (sy_run118n (p1 w)))
        · obtain ⟨c, c1, c2⟩ := sd_w (by omega) w
          unfold wY_run_79
          rw [c2]
          refine br_t rfl (br_t (nI_pos' (by omega)) (br_f (by decide) ?_))
          unfold wY_run_112
          exact p2 c c2 c1
      have hbad93 : ∀ {post : Int32 → SX → Prop}, post (-1) ((nI nc), (nI nm), (nI nr), xnd, xmd, xnh, xlv, xq, xs, bl, ft, xdp, sp, xss, (nI np), (nI dp), xsm, fc, (oF pa), xfs, ups, (nF hm), (nF na), br, (nF ln), (nF op), ic, ii, xdc, xfd, (nF rk), rc, rn, xqu, xwt, xsi, xtg, xnw, xfa, xsg, xnn, xtk, xrl, bop, bcl, bin, bsk, bme, bli, bou, xnf, xfm, xfl, xfh, ou, xem, xel) → wX_run_93 post 0 (-1) (nI nc) (nI nm) (nI nr) xnd xmd xnh xlv xq xs bl ft xdp sp xss (nI np) (nI dp) xsm fc (oF pa) xfs ups (nF hm) (nF na) br (nF ln) (nF op) ic ii xdc xfd (nF rk) rc rn xqu xwt xsi xtg xnw xfa xsg xnn xtk xrl bop bcl bin bsk bme bli bou xnf xfm xfl xfh ou xem xel := fun hp => br_f (by decide) hp
      by_cases w2 : 0 ≤ v2 ∧ v2 < nI nc
      · refine xw_t w2 ?_
        obtain ⟨c, c1, c2⟩ := sd_w (by omega) w2
        by_cases w3 : 0 ≤ v3 ∧ v3 < 10
        · refine xw_t w3 ?_
          obtain ⟨n, n1, n2⟩ := sd_w (n := 10) (by decide) w3
          rw [c2, n2]
          refine sx_found h10 A c1 n1 ?_
          have hYf : ∀ {post : Int32 → SY → Prop}, wY_run_118 post 0 (oI (rn_go br (fd c n))) (nI nc) (nI nm) (nI nr) ft ynd ymd ynh ylv bl (nI dp) sp (nI np) yen fc br (oF pa) ups yow yma (nF hm) (nF na) (nF ln) (nF op) fs sc (nF rk) rc rn yil ynu ynn yfa yvm yvl yvh ou → wpY_run post ((nI nc), (nI nm), (nI nr), ft, ynd, ymd, ynh, ylv, bl, (nI dp), sp, (nI np), yen, fc, br, (oF pa), ups, yow, yma, (nF hm), (nF na), (nF ln), (nF op), fs, sc, (nF rk), rc, rn, yil, ynu, ynn, yfa, yvm, yvl, yvh, ou) 0 (nI c) (nI n) := by
            intro post hp
            rw [← c2, ← n2]
            refine hY29 (fun z => absurd w2 z) (fun c' ec hc' => ?_)
            have : c = c' := sd_inj (by omega) (by omega) (c2.symm.trans ec)
            subst this
            unfold wpY_found
            dsimp only
            rw [n2]
            refine br_t rfl (sy_finds F0 F1 hfd c1 n1 ?_)
            unfold wY_found_19
            cases ef : fd c n with
            | none =>
              rw [ef] at hp
              exact br_t (by decide) hp
            | some g =>
              rw [ef] at hp
              have hgm := (sp_sound F0 F1 hfd c n g c1 ef).1
              rw [oI_s, nI_clamp (n := g) (by omega)]
              refine br_f (nI_pos (by omega)) (br_t rfl ⟨vp_in_nI (by omega) (by decide), br_c (fun hb => ?_) (fun hb => ?_)⟩)
              · have : rn_go br (some g) = some g := if_pos hb
                rw [this] at hp; exact hp
              · have : rn_go br (some g) = none := if_neg hb
                rw [this] at hp; exact hp
          cases ef : fd c n with
          | none =>
            rw [ef] at hYf
            refine br_t (by decide) ?_
            exact hbad93 (hYf (sy_run118n ⟨rfl, hZ xfd A⟩))
          | some g =>
            rw [ef] at hYf
            have hgm := (sp_sound F0 F1 hfd c n g c1 ef).1
            rw [oI_s, nI_clamp (n := g) (by omega)]
            refine br_f (nI_pos (by omega)) ⟨vp_in_nI (by omega) (by decide), br_c (fun hb => ?_) (fun hb => ?_)⟩
            · have hgo : rn_go br (some g) = some g := if_pos hb
              rw [hgo] at hYf
              unfold wX_run_93
              refine br_t (nI_pos' (by omega)) (br_f (by decide) ?_)
              have hout : rn_out (fun _ u v => i_Rel (k + 5) u v) (fun p => ∀ n, 401 < n → rn_X p n (-1) ((nI nc), (nI nm), (nI nr), xnd, xmd, xnh, xlv, xq, xs, bl, ft, (nI 1), (nI 0), (-1), (nI 0), (nI dp), (nI 0), fc, (oF pa), xfs, ups, (nF hm), (nF na), br, (nF ln), (nF op), ic, ii, xdc, xfd, (nF rk), rc, rn, xqu, xwt, xsi, xtg, xnw, xfa, xsg, xnn, xtk, xrl, bop, bcl, bin, bsk, bme, bli, bou, xnf, (upd xfm 0 (nI g)), (upd xfl 0 (nI 0)), (upd xfh 0 (oI none)), ou, xem, xel)) (fun p => ∀ n, 2 * 401 + 2 < n → rn_Y p (nI 0) n ((nI nc), (nI nm), (nI nr), ft, ynd, ymd, ynh, ylv, bl, (nI 1), (nI 0), (nI 0), (-1), fc, br, (oF pa), ups, yow, yma, (nF hm), (nF na), (nF ln), (nF op), fs, sc, (nF rk), rc, rn, yil, ynu, ynn, yfa, (upd yvm 0 (nI g)), (upd yvl 0 (nI 0)), (upd yvh 0 (oI none)), ou)) := rn_old (E := fun _ u v => i_Rel (k + 5) u v) F0 F1 F2 hfd hok A rfl (by decide)
                (fun r d s np M L xfm xfl xfh yvm yvl yvh ou a1 a2 a3 => zz_in F0 F1 F2 F3 F4 F5 (rl_runI a2 a1 a3) (hF7 xfd A)) 401 1 0 0 (fun _ => g) (fun _ => 0) (fun _ => none) (upd xfm 0 (nI g)) (upd xfl 0 (nI 0)) (upd xfh 0 (oI none)) (upd yvm 0 (nI g)) (upd yvl 0 (nI 0)) (upd yvh 0 (oI none)) ou (by omega) (by omega) (by omega) (by omega) (by omega)
                (fun j hj => by
                  have : j = 0 := by omega
                  subst this
                  rw [pk_us, pk_us, pk_us, pk_us, pk_us, pk_us]
                  exact ⟨hgm, fun x ex => (by cases ex), rfl, rfl, rfl, rfl, rfl, rfl, fun z => by omega, by show 0 < 8; omega⟩)
              obtain ⟨r, u, v, hE, hX, hY⟩ := hout
              refine sx_run111 (z := 0) (by omega) (by omega) ⟨402, hX _ ?_ 402 (by omega)⟩
              exact hYf (sy_run118 (z := 0) (by omega) (by omega) ⟨805, hY (fun r' v' => r' = r ∧ i_Rel (k + 5) u v') ⟨rfl, hE⟩ 805 (by omega)⟩)
            · have hgo : rn_go br (some g) = none := if_neg hb
              rw [hgo] at hYf
              exact hbad93 (hYf (sy_run118n ⟨rfl, hZ xfd A⟩))
        · refine xw_f w3 ?_
          refine hbad93 (hY29 (fun z => absurd w2 z) (fun c' ec hc' => ?_))
          unfold wpY_found
          dsimp only
          refine br_t rfl (sy_findsN F0 F1 hc' (fun m hm' z => w3 ?_) ?_)
          · rw [← z]; exact sd_wi (n := 10) (F1.2.1 m hm').2.1 (by decide)
          · unfold wY_found_19
            exact br_t (by decide) (sy_run118n ⟨rfl, hZ xfd A⟩)
      · refine xw_f w2 ?_
        exact hbad93 (hY29 (fun _ => ⟨rfl, hZ xfd A⟩) (fun c ec hc => absurd (by rw [ec]; exact sd_wi hc (by omega)) w2))
  · -- the program as it is built
    subst e1
    have hbad93 : ∀ {post : Int32 → SX → Prop}, post (-1) ((nI nc), (nI nm), (nI nr), xnd, xmd, xnh, xlv, xq, xs, bl, ft, xdp, sp, xss, (nI np), (nI dp), xsm, fc, (oF pa), xfs, ups, (nF hm), (nF na), br, (nF ln), (nF op), ic, ii, xdc, xfd, (nF rk), rc, rn, xqu, xwt, xsi, xtg, xnw, xfa, xsg, xnn, xtk, xrl, bop, bcl, bin, bsk, bme, bli, bou, xnf, xfm, xfl, xfh, ou, xem, xel) → wX_run_93 post 1 (-1) (nI nc) (nI nm) (nI nr) xnd xmd xnh xlv xq xs bl ft xdp sp xss (nI np) (nI dp) xsm fc (oF pa) xfs ups (nF hm) (nF na) br (nF ln) (nF op) ic ii xdc xfd (nF rk) rc rn xqu xwt xsi xtg xnw xfa xsg xnn xtk xrl bop bcl bin bsk bme bli bou xnf xfm xfl xfh ou xem xel := fun hp => br_f (by decide) hp
    have h79n : ∀ {post : Int32 → SY → Prop} {x5 : Int32}, post (-1) ((nI nc), (nI nm), (nI nr), ft, ynd, ymd, ynh, ylv, bl, (nI dp), sp, (nI np), yen, fc, br, (oF pa), ups, yow, yma, (nF hm), (nF na), (nF ln), (nF op), fs, sc, (nF rk), rc, rn, yil, ynu, ynn, yfa, yvm, yvl, yvh, ou) → wY_run_79 post 1 v3 ft x5 (-1) (nI nc) (nI nm) (nI nr) ft ynd ymd ynh ylv bl (nI dp) sp (nI np) yen fc br (oF pa) ups yow yma (nF hm) (nF na) (nF ln) (nF op) fs sc (nF rk) rc rn yil ynu ynn yfa yvm yvl yvh ou := fun hp => by
      unfold wY_run_79
      exact br_c (fun _ => br_f (by decide) (sy_run118n hp)) (fun _ => sy_run118n hp)
    rcases F7 with e | ⟨e, q1, q2, q3, B⟩
    · refine br_t e (hbad93 ?_)
      unfold wpY_run
      dsimp only
      refine br_f (by decide) (br_t e ?_)
      unfold wY_run_29
      exact br_f (by decide) (br_t rfl (br_t e (h79n ⟨rfl, Z⟩)))
    · have hne : ¬ bl = 0 := by rw [e]; decide
      obtain ⟨fd, tg, nw, N, nf, B1, B2, B3, B4, B5, B6, B7, B8, B9, B10, B11, B12, B13, B14, B15⟩ := B
      have F7' : bl = 0 ∨ bl = 1 ∧ ynd = xnd ∧ ylv = xlv ∧ (ynh ||| ylv) = (xlv ||| xnh) ∧ rl_B nc nm pa hm ln op cl nn fc ups br ii dc xnd (xlv ||| xnh) xlv xfd xtg xnw xnn xrl bop bcl bin bsk bme bli bou xnf yil ynu ynn yfa :=
        Or.inr ⟨e, q1, q2, q3, fd, tg, nw, N, nf, B1, B2, B3, B4, B5, B6, B7, B8, B9, B10, B11, B12, B13, B14, B15⟩
      have HX : ∀ c, c < nc → xnw c = oI (nw c) ∧ ∀ k, nw c = some k → k < 128 := fun c hc => ⟨(B9 c hc).1, (B9 c hc).2.2.2⟩
      have HY : ∀ c, c < nc → ynu c = oI (nw c) ∧ (bt ynd c = true ↔ ∃ k, nw c = some k) ∧ ∀ k, nw c = some k → k < 128 := fun c hc => ⟨(B9 c hc).2.1, by rw [q1]; exact (B9 c hc).2.2.1, (B9 c hc).2.2.2⟩
      have YN : ∀ m, m < nm → bt (ynh ||| ylv) m = true → ∃ r, r < nm ∧ yfa m = nI r ∧ ynn r = nI (N m) := fun m a b => by rw [q3] at b; exact (B11 m a b).2.2
      have HnfY : sw_nf nc nm pa hm (ynh ||| ylv) N nf := by rw [q3]; exact B12
      have hYc : ∀ {post : Int32 → SY → Prop}, (v2 < 0 → post (-1) ((nI nc), (nI nm), (nI nr), ft, ynd, ymd, ynh, ylv, bl, (nI dp), sp, (nI np), yen, fc, br, (oF pa), ups, yow, yma, (nF hm), (nF na), (nF ln), (nF op), fs, sc, (nF rk), rc, rn, yil, ynu, ynn, yfa, yvm, yvl, yvh, ou)) → (∀ c, v2 = nI c → c < 2 ^ 31 → (rl_oc nc nw c = none → post (-1) ((nI nc), (nI nm), (nI nr), ft, ynd, ymd, ynh, ylv, bl, (nI dp), sp, (nI np), yen, fc, br, (oF pa), ups, yow, yma, (nF hm), (nF na), (nF ln), (nF op), fs, sc, (nF rk), rc, rn, yil, ynu, ynn, yfa, yvm, yvl, yvh, ou)) ∧ ∀ d, rl_oc nc nw c = some d → wY_run_118 post 1 (oI (rn_lv xlv (nf d v3))) (nI nc) (nI nm) (nI nr) ft ynd ymd ynh ylv bl (nI dp) sp (nI np) yen fc br (oF pa) ups yow yma (nF hm) (nF na) (nF ln) (nF op) fs sc (nF rk) rc rn yil ynu ynn yfa yvm yvl yvh ou) → wpY_run post ((nI nc), (nI nm), (nI nr), ft, ynd, ymd, ynh, ylv, bl, (nI dp), sp, (nI np), yen, fc, br, (oF pa), ups, yow, yma, (nF hm), (nF na), (nF ln), (nF op), fs, sc, (nF rk), rc, rn, yil, ynu, ynn, yfa, yvm, yvl, yvh, ou) 1 v2 v3 := by
        intro post p1 p2
        unfold wpY_run
        dsimp only
        refine br_f (by decide) (br_f hne ?_)
        unfold wY_run_29
        refine br_f (by decide) (br_t rfl (br_f hne (br_c (fun hl => h79n (p1 hl)) (fun hl => ?_))))
        obtain ⟨c, c1, c2⟩ := nI_of hl
        obtain ⟨p3, p4⟩ := p2 c c2 c1
        rw [c2]
        refine sy_classOf h10 HY c1 ?_
        cases eo : rl_oc nc nw c with
        | none => exact h79n (p3 eo)
        | some d =>
          obtain ⟨d1, d2⟩ := rl_ocI eo
          have hp := p4 d eo
          unfold wY_run_79
          rw [oI_s]
          refine br_t rfl (br_t (nI_pos' (by omega)) (br_t rfl ?_))
          unfold wY_run_112 wpY_found
          dsimp only
          refine br_f (by decide) (sy_findsNew F0 F1 HnfY YN d1 ?_)
          unfold wY_found_19
          cases ef : nf d v3 with
          | none =>
            rw [ef] at hp
            exact br_t (by decide) hp
          | some m =>
            rw [ef] at hp
            have hm' := sw_nfb F0 B12 d _ m d1 ef
            rw [oI_s]
            refine br_f (nI_pos (by omega)) (br_f (by decide) (yh_b (by omega) (fun hb => ?_) (fun hb => ?_)))
            · have : rn_lv xlv (some m) = none := if_neg (by rw [← q2, hb]; decide)
              rw [this] at hp; exact hp
            · have : rn_lv xlv (some m) = some m := if_pos (by rw [← q2]; exact hb)
              rw [this] at hp; exact hp
      refine br_f hne (br_c (fun hl => hbad93 (hYc (fun _ => ⟨rfl, Z⟩) (fun c ec hc => absurd hl (by rw [ec]; exact nI_pos hc)))) (fun hl => ?_))
      obtain ⟨c, c1, c2⟩ := nI_of hl
      subst c2
      have hcc : ∀ c', nI c = nI c' → c' < 2 ^ 31 → c' = c := fun c' ec hc' => (sd_inj c1 hc' ec).symm
      by_cases w3 : 0 ≤ v3 ∧ v3 < 32
      · refine xw_t w3 (sx_oldClass h10 HX c1 ?_)
        obtain ⟨n, n1, n2⟩ := sd_w (n := 32) (by decide) w3
        cases eo : rl_oc nc nw c with
        | none =>
          refine br_f (by decide) ?_
          unfold wX_run_71
          refine br_t (by decide) (hbad93 (hYc (fun _ => ⟨rfl, Z⟩) (fun c' ec hc' => ⟨fun _ => ⟨rfl, Z⟩, fun d ed => ?_⟩)))
          rw [hcc c' ec hc', eo] at ed; cases ed
        | some d =>
          obtain ⟨d1, d2⟩ := rl_ocI eo
          have hYd : ∀ {post : Int32 → SY → Prop}, wY_run_118 post 1 (oI (rn_lv xlv (nf d v3))) (nI nc) (nI nm) (nI nr) ft ynd ymd ynh ylv bl (nI dp) sp (nI np) yen fc br (oF pa) ups yow yma (nF hm) (nF na) (nF ln) (nF op) fs sc (nF rk) rc rn yil ynu ynn yfa yvm yvl yvh ou → wpY_run post ((nI nc), (nI nm), (nI nr), ft, ynd, ymd, ynh, ylv, bl, (nI dp), sp, (nI np), yen, fc, br, (oF pa), ups, yow, yma, (nF hm), (nF na), (nF ln), (nF op), fs, sc, (nF rk), rc, rn, yil, ynu, ynn, yfa, yvm, yvl, yvh, ou) 1 (nI c) v3 := fun hp =>
            hYc (fun z => absurd z hl) (fun c' ec hc' => ⟨fun z => (by rw [hcc c' ec hc', eo] at z; cases z), fun d' ed => by rw [hcc c' ec hc', eo] at ed; cases ed; exact hp⟩)
          have hidx : (32 : Int32) * nI d + v3 = nI (32 * d + n) := by rw [n2, sd_x32, nI_add]
          have hxn : xnf (32 * d + n) = oI (nf d v3) := by rw [n2]; exact B13 d n d1 n1
          rw [oI_s, hidx, nI_clamp (n := 32 * d + n) (by omega), hxn]
          refine br_t (nI_pos' (by omega)) ⟨vp_in_nI (by omega) (by decide), ?_⟩
          unfold wX_run_71
          cases ef : nf d v3 with
          | none =>
            rw [ef] at hYd
            exact br_t (by decide) (hbad93 (hYd (sy_run118n ⟨rfl, Z⟩)))
          | some m =>
            rw [ef] at hYd
            have hm' := sw_nfb F0 B12 d _ m d1 ef
            rw [oI_s]
            refine br_f (nI_pos (by omega)) (xh_b (by omega) (fun hb => ?_) (fun hb => ?_))
            · have hgo : rn_lv xlv (some m) = none := if_neg (by rw [hb]; decide)
              rw [hgo] at hYd
              exact hbad93 (hYd (sy_run118n ⟨rfl, Z⟩))
            · have hgo : rn_lv xlv (some m) = some m := if_pos hb
              rw [hgo] at hYd
              unfold wX_run_93
              refine br_t (nI_pos' (by omega)) (br_t rfl ?_)
              have hln := (F1.2.1 m hm').2.2.1
              have hout : rn_out (fun _ u v => i_Rel (k + 5) u v) (fun p => ∀ n, 401 < n → rn_X p n (-1) ((nI nc), (nI nm), (nI nr), xnd, xmd, xnh, xlv, xq, xs, bl, ft, (nI 1), (nI 0), (-1), (nI 0), (nI dp), (nI 1), fc, (oF pa), xfs, ups, (nF hm), (nF na), br, (nF ln), (nF op), ic, ii, xdc, xfd, (nF rk), rc, rn, xqu, xwt, xsi, xtg, xnw, xfa, xsg, xnn, xtk, xrl, bop, bcl, bin, bsk, bme, bli, bou, xnf, (upd xfm 0 (nI m)), (upd xfl 0 (nI 0)), (upd xfh 0 (oI none)), ou, xem, xel)) (fun p => ∀ n, 2 * 401 + 2 < n → rn_Y p (nI 1) n ((nI nc), (nI nm), (nI nr), ft, ynd, ymd, ynh, ylv, bl, (nI 1), (nI 0), (nI 0), (-1), fc, br, (oF pa), ups, yow, yma, (nF hm), (nF na), (nF ln), (nF op), fs, sc, (nF rk), rc, rn, yil, ynu, ynn, yfa, (upd yvm 0 (nI m)), (upd yvl 0 (nI 0)), (upd yvh 0 (oI none)), ou)) := (rn_new (E := fun _ u v => i_Rel (k + 5) u v) F0 F1 F2 B1 B2 (by decide) rfl q2 q3 B6 B7 B8 B9 B10 B11 B12 B13 B14 B15
                (fun r xd d s np M L xfm xfl xfh yvm yvl yvh ou a1 a2 a3 => zz_in F0 F1 F2 F3 F4 F5 (rl_runI a2 a1 a3) F7') 401).1 0 0 0 (fun _ => m) (fun _ => 0) (fun _ => none) (upd xfm 0 (nI m)) (upd xfl 0 (nI 0)) (upd xfh 0 (oI none)) (upd yvm 0 (nI m)) (upd yvl 0 (nI 0)) (upd yvh 0 (oI none)) ou (by omega) (by omega) (by omega) (by omega)
                (fun j hj => by
                  have : j = 0 := by omega
                  subst this
                  rw [pk_us, pk_us, pk_us, pk_us, pk_us]
                  exact ⟨hm', hb, fun x ex => (by cases ex), rfl, rfl, rfl, rfl, rfl, by show 0 < 8; omega, fun z => by omega⟩)
                (by
                  rw [pk_us]
                  rcases Nat.eq_zero_or_pos (ln m) with y | y
                  · exact Or.inr ⟨by omega, by rw [y]; rfl⟩
                  · exact Or.inl ⟨y, rfl⟩)
              obtain ⟨r, u, v, hE, hX, hY⟩ := hout
              refine sx_run111 (z := 1) (by omega) (by omega) ⟨402, hX _ ?_ 402 (by omega)⟩
              exact hYd (sy_run118 (z := 1) (by omega) (by omega) ⟨805, hY (fun r' v' => r' = r ∧ i_Rel (k + 5) u v') ⟨rfl, hE⟩ 805 (by omega)⟩)
      · refine xw_f w3 (hbad93 (hYc (fun z => absurd z hl) (fun c' ec hc' => ⟨fun _ => ⟨rfl, Z⟩, fun d ed => ?_⟩)))
        obtain ⟨d1, d2⟩ := rl_ocI ed
        have hnn : nf d v3 = none := sw_nfN F0 B12 (fun m hm' hs z => w3 (by rw [← z]; exact sd_wi (n := 32) (B11 m hm' hs).1 (by decide))) d d1
        rw [hnn]
        exact sy_run118n ⟨rfl, Z⟩
  · -- neither
    unfold wX_run_93
    refine br_f (by decide) ?_
    have hY79 : ∀ x5, wY_run_79 (fun r' v' => r' = -1 ∧ i_Rel (k + 5) ((nI nc), (nI nm), (nI nr), xnd, xmd, xnh, xlv, xq, xs, bl, ft, xdp, sp, xss, (nI np), (nI dp), xsm, fc, (oF pa), xfs, ups, (nF hm), (nF na), br, (nF ln), (nF op), ic, ii, xdc, xfd, (nF rk), rc, rn, xqu, xwt, xsi, xtg, xnw, xfa, xsg, xnn, xtk, xrl, bop, bcl, bin, bsk, bme, bli, bou, xnf, xfm, xfl, xfh, ou, xem, xel) v') v1 v3 ft x5 (-1) (nI nc) (nI nm) (nI nr) ft ynd ymd ynh ylv bl (nI dp) sp (nI np) yen fc br (oF pa) ups yow yma (nF hm) (nF na) (nF ln) (nF op) fs sc (nF rk) rc rn yil ynu ynn yfa yvm yvl yvh ou := fun x5 => by
      unfold wY_run_79
      exact br_c (fun _ => br_f (by decide) (sy_run118n ⟨rfl, Z⟩)) (fun _ => sy_run118n ⟨rfl, Z⟩)
    unfold wpY_run
    dsimp only
    refine br_f e0 (br_c (fun _ => ?_) (fun _ => ?_))
    · unfold wY_run_29
      exact br_f e0 (br_f e1 (hY79 _))
    · unfold wY_run_29
      exact br_f e0 (br_f e1 (hY79 _))
end
