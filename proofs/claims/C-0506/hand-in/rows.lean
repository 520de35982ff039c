section
/-! pure rows to paste: stores, nI and lN arithmetic, masks, shifts, narrowing, branches by naturals (pk_le, pk_lt, pk_eq), loops (lp1 .. lp16: the measure of the state; rp1 ..: recursion), negatives. Take what you need -/
theorem pk_us {f : Nat → Int32} {k : Nat} {x : Int32} : upd f k x k = x := if_pos rfl
theorem pk_un {f : Nat → Int32} {k j : Nat} {x : Int32} (h : j ≠ k) : upd f k x j = f j := if_neg h
theorem pk_uLs {f : Nat → Int64} {k : Nat} {x : Int64} : vp_updL f k x k = x := if_pos rfl
theorem pk_uLn {f : Nat → Int64} {k j : Nat} {x : Int64} (h : j ≠ k) : vp_updL f k x j = f j := if_neg h
theorem pk_sub {a b : Nat} (h : b ≤ a) : nI a - nI b = nI (a - b) := by
  obtain ⟨c, rfl⟩ : ∃ c, a = c + b := ⟨a - b, by omega⟩
  rw [← nI_add, Int32.add_sub_cancel, Nat.add_sub_cancel]
theorem pk_m1 (n : Nat) : nI (n + 1) + (-1) = nI n := by
  rw [← nI_1, Int32.add_assoc, show (1 : Int32) + (-1) = 0 from rfl, Int32.add_zero]
theorem pk_mul (a b : Nat) : nI a * nI b = nI (a * b) := (Int32.ofNat_mul a b).symm
theorem pk_div {a d : Nat} (ha : a < 2 ^ 31) (h0 : 0 < d) (hd : d < 2 ^ 31) : nI a / nI d = nI (a / d) := by
  apply Int32.toInt_inj.mp
  rw [lg_idiv_nonneg (by rw [nI_toInt ha]; omega) (by rw [nI_toInt hd]; omega), nI_toInt ha, nI_toInt hd, nI_toInt (Nat.lt_of_le_of_lt (Nat.div_le_self a d) ha)]
  first | rfl | exact (Int.natCast_ediv _ _).symm
theorem pk_rem {a d : Nat} (ha : a < 2 ^ 31) (h0 : 0 < d) (hd : d < 2 ^ 31) : nI a - nI a / nI d * nI d = nI (a % d) := by
  rw [pk_div ha h0 hd, pk_mul, pk_sub (Nat.div_mul_le_self a d)]
  exact congrArg nI (by have := Nat.div_add_mod' a d; omega)
theorem pk_sub_toInt {a b : Nat} (ha : a < 2 ^ 30) (hb : b < 2 ^ 30) : (nI a - nI b).toInt = (a : Int) - b := by
  rw [Int32.toInt_sub, nI_toInt (by omega), nI_toInt (by omega)]
  exact Int.bmod_eq_of_le (by omega) (by omega)
theorem pk_sneg {a b : Nat} (hb : b < 2 ^ 30) (h : a < b) : nI a - nI b < 0 := by
  rw [Int32.lt_iff_toInt_lt, pk_sub_toInt (by omega) hb, show (0 : Int32).toInt = 0 from by decide]
  omega
theorem pk_ix (x : Int32) {n : Nat} (hn : n < 2 ^ 31) : x < 0 ∨ nI n ≤ x ∨ ∃ j : Nat, j < n ∧ x = nI j := by
  by_cases h : x < 0
  · exact Or.inl h
  · obtain ⟨j, hj, rfl⟩ := nI_of h
    by_cases h2 : j < n
    · exact Or.inr (Or.inr ⟨j, h2, rfl⟩)
    · exact Or.inr (Or.inl (nI_le (by omega) hj))
theorem pk_le {x y : Int32} {A B : Prop} (a b : Nat) (f : a ≤ b → A) (g : b < a → B) (hx : x = nI a := by rfl) (hy : y = nI b := by rfl) (ha : a < 2 ^ 31 := by omega) (hb : b < 2 ^ 31 := by omega) : (x ≤ y → A) ∧ (¬ x ≤ y → B) := by
  subst hx hy
  rw [nI_leI ha hb]
  exact ⟨f, fun z => g (by omega)⟩
theorem pk_lt {x y : Int32} {A B : Prop} (a b : Nat) (f : a < b → A) (g : b ≤ a → B) (hx : x = nI a := by rfl) (hy : y = nI b := by rfl) (ha : a < 2 ^ 31 := by omega) (hb : b < 2 ^ 31 := by omega) : (x < y → A) ∧ (¬ x < y → B) := by
  subst hx hy
  rw [nI_ltI ha hb]
  exact ⟨f, fun z => g (by omega)⟩
theorem pk_eq {x y : Int32} {A B : Prop} (a b : Nat) (f : a = b → A) (g : a ≠ b → B) (hx : x = nI a := by rfl) (hy : y = nI b := by rfl) (ha : a < 2 ^ 31 := by omega) (hb : b < 2 ^ 31 := by omega) : (x = y → A) ∧ (¬ x = y → B) := by
  subst hx hy
  rw [nI_eq ha hb]
  exact ⟨f, g⟩
theorem pk_in {x : Int32} (n N : Nat) (h : n < N) (hx : x = nI n := by rfl) (hN : N < 2 ^ 31 := by omega) : vp_in x N := by
  subst hx
  exact vp_in_nI h hN
theorem pk_cl {x : Int32} (n : Nat) (hx : x = nI n := by rfl) (h : n < 2 ^ 31 := by omega) : x.toNatClampNeg = n := by
  subst hx
  exact nI_clamp h
theorem pk_tn {n : Nat} (h : n < 2 ^ 32) : (nI n).toBitVec.toNat = n := Nat.mod_eq_of_lt h
theorem pk_and (x : Int32) {m : Int32} (k : Nat) (hm : m.toBitVec.toNat = 2 ^ k - 1) : x &&& m = nI (x.toBitVec.toNat % 2 ^ k) := by
  apply Int32.toBitVec_inj.mp
  apply BitVec.eq_of_toNat_eq
  rw [Int32.toBitVec_and, BitVec.toNat_and, hm, Nat.and_two_pow_sub_one_eq_mod]
  show _ = (BitVec.ofNat 32 _).toNat
  rw [BitVec.toNat_ofNat]
  exact (Nat.mod_eq_of_lt (Nat.lt_of_le_of_lt (Nat.mod_le _ _) x.toBitVec.isLt)).symm
theorem pk_andN {n : Nat} (h : n < 2 ^ 32) {m : Int32} (k : Nat) (hm : m.toBitVec.toNat = 2 ^ k - 1) : nI n &&& m = nI (n % 2 ^ k) := by
  rw [pk_and _ k hm, pk_tn h]
theorem pk_andE (x : Int32) {m : Int32} (k : Nat) (hm : m.toBitVec.toNat = 2 ^ k - 1) : ∃ j : Nat, j < 2 ^ k ∧ x &&& m = nI j := ⟨_, Nat.mod_lt _ (Nat.two_pow_pos k), pk_and x k hm⟩
theorem pk_andIn (x : Int32) {m : Int32} (k : Nat) (hm : m.toBitVec.toNat = 2 ^ k - 1) (hk : k ≤ 30) : vp_in (x &&& m) (2 ^ k) := by
  obtain ⟨j, hj, e⟩ := pk_andE x k hm
  rw [e]
  exact vp_in_nI hj (Nat.lt_of_le_of_lt (Nat.pow_le_pow_right (by decide) hk) (by decide))
theorem pk_lT {n : Nat} (h : n < 2 ^ 63) : (lN n).toInt = (n : Int) := lg_ofNat_toInt h
theorem pk_lLT {a b : Nat} (ha : a < 2 ^ 63) (hb : b < 2 ^ 63) : lN a < lN b ↔ a < b := by
  rw [Int64.lt_iff_toInt_lt, pk_lT ha, pk_lT hb]; omega
theorem pk_lLE {a b : Nat} (ha : a < 2 ^ 63) (hb : b < 2 ^ 63) : lN a ≤ lN b ↔ a ≤ b := by
  rw [Int64.le_iff_toInt_le, pk_lT ha, pk_lT hb]; omega
theorem pk_lEQ {a b : Nat} (ha : a < 2 ^ 63) (hb : b < 2 ^ 63) : lN a = lN b ↔ a = b := by
  rw [← Int64.toInt_inj, pk_lT ha, pk_lT hb]; omega
theorem pk_lOf {x : Int64} (h : ¬ x < 0) : ∃ k : Nat, k < 2 ^ 63 ∧ x = lN k := by
  rw [Int64.lt_iff_toInt_lt] at h
  have h0 : (0 : Int64).toInt = 0 := by decide
  have hx := Int64.toInt_lt x
  refine ⟨x.toInt.toNat, by omega, Int64.toInt_inj.mp ?_⟩
  rw [pk_lT (by omega)]
  omega
theorem pk_least (P : Nat → Prop) (h : ∃ k, P k) : ∃ k, P k ∧ ∀ j, j < k → ¬ P j := by
  obtain ⟨k, hk⟩ := h
  induction k using Nat.strongRecOn with
  | ind k ih =>
    by_cases e : ∃ j, j < k ∧ P j
    · obtain ⟨j, hj, pj⟩ := e
      exact ih j hj pj
    · exact ⟨k, hk, fun j hj pj => e ⟨j, hj, pj⟩⟩
theorem wb_tb (n : Nat) : (lN n).toBitVec = BitVec.ofNat 64 n := rfl
theorem wb_inj {a b : Int64} (h : a.toBitVec = b.toBitVec) : a = b := Int64.toBitVec_inj.mp h
theorem wb_tn {n : Nat} (h : n < 2 ^ 64) : (lN n).toBitVec.toNat = n := by rw [wb_tb, BitVec.toNat_ofNat, Nat.mod_eq_of_lt h]
theorem wb_of (x : Int64) : ∃ n, n < 2 ^ 64 ∧ x = lN n := ⟨x.toBitVec.toNat, x.toBitVec.isLt, wb_inj (by rw [wb_tb]; simp)⟩
theorem wb_of32 (x : Int32) : ∃ n, n < 2 ^ 32 ∧ x = nI n := ⟨x.toBitVec.toNat, x.toBitVec.isLt, Int32.toBitVec_inj.mp (by show _ = BitVec.ofNat 32 _; simp)⟩
theorem wb_c : ∀ k, k < 64 → ((nI k).toInt64 &&& 63) = lN k := by decide +kernel
theorem wb_cu : ∀ k, k < 64 → ((nI k).toInt64.toUInt64 &&& Int64.toUInt64 63) = UInt64.ofNat k := by decide +kernel
theorem wb_sm : ∀ k, k < 64 → (BitVec.ofNat 64 k).smod 64 = BitVec.ofNat 64 k := by decide +kernel
theorem wb_pw {a b : Nat} (h : a ≤ b) : 2 ^ b = 2 ^ a * 2 ^ (b - a) := by rw [← Nat.pow_add]; congr 1; omega
theorem wb_lt2 {a b : Nat} (h : a < b) : 2 ^ a < 2 ^ b := Nat.pow_lt_pow_right (by decide) h
theorem wb_mod (n : Nat) : lN n = lN (n % 2 ^ 64) := wb_inj (by rw [wb_tb, wb_tb]; apply BitVec.eq_of_toNat_eq; rw [BitVec.toNat_ofNat, BitVec.toNat_ofNat, Nat.mod_mod])
theorem wb_shr {n k : Nat} (hn : n < 2 ^ 64) (hk : k < 64) : ((lN n).toUInt64 >>> ((nI k).toInt64.toUInt64 &&& Int64.toUInt64 63)).toInt64 = lN (n / 2 ^ k) := by
  rw [wb_cu k hk]
  apply wb_inj
  apply BitVec.eq_of_toNat_eq
  show ((lN n).toUInt64 >>> UInt64.ofNat k).toNat = (BitVec.ofNat 64 _).toNat
  have h1 : (UInt64.ofNat k).toNat = k := by
    show (BitVec.ofNat 64 k).toNat = k
    rw [BitVec.toNat_ofNat, Nat.mod_eq_of_lt (by omega)]
  have h2 : (lN n).toUInt64.toNat = n := wb_tn hn
  rw [UInt64.toNat_shiftRight, h1, h2, Nat.mod_eq_of_lt hk, Nat.shiftRight_eq_div_pow, BitVec.toNat_ofNat, Nat.mod_eq_of_lt (Nat.lt_of_le_of_lt (Nat.div_le_self _ _) hn)]
theorem wb_shl (n : Nat) {k : Nat} (hk : k < 64) : lN n <<< ((nI k).toInt64 &&& 63) = lN (n * 2 ^ k) := by
  rw [wb_c k hk]
  apply wb_inj
  rw [Int64.toBitVec_shiftLeft, wb_tb, wb_tb, wb_tb, wb_sm k hk]
  apply BitVec.eq_of_toNat_eq
  rw [BitVec.shiftLeft_eq', BitVec.toNat_shiftLeft, BitVec.toNat_ofNat, BitVec.toNat_ofNat, BitVec.toNat_ofNat, Nat.mod_eq_of_lt (show k < 2 ^ 64 by omega), Nat.shiftLeft_eq, Nat.mul_mod, Nat.mod_mod, ← Nat.mul_mod]
theorem wb_and {a b : Nat} (ha : a < 2 ^ 64) (hb : b < 2 ^ 64) : lN a &&& lN b = lN (a &&& b) := by
  apply wb_inj
  rw [Int64.toBitVec_and, wb_tb, wb_tb, wb_tb]
  apply BitVec.eq_of_toNat_eq
  rw [BitVec.toNat_and, BitVec.toNat_ofNat, BitVec.toNat_ofNat, BitVec.toNat_ofNat, Nat.mod_eq_of_lt ha, Nat.mod_eq_of_lt hb, Nat.mod_eq_of_lt (Nat.and_lt_two_pow _ hb)]
theorem wb_or {a b : Nat} (ha : a < 2 ^ 64) (hb : b < 2 ^ 64) : lN a ||| lN b = lN (a ||| b) := by
  apply wb_inj
  rw [Int64.toBitVec_or, wb_tb, wb_tb, wb_tb]
  apply BitVec.eq_of_toNat_eq
  rw [BitVec.toNat_or, BitVec.toNat_ofNat, BitVec.toNat_ofNat, BitVec.toNat_ofNat, Nat.mod_eq_of_lt ha, Nat.mod_eq_of_lt hb, Nat.mod_eq_of_lt (Nat.or_lt_two_pow ha hb)]
theorem u_tn {n : Nat} (h : n < 2 ^ 64) : (UInt64.ofNat n).toNat = n := Nat.mod_eq_of_lt h
theorem g_or {k p a b : Nat} (hp : 2 ^ k = p) (ha : a < p) (h : b * p + a < 2 ^ 64) : lN (b * p) ||| lN a = lN (b * p + a) := by
  subst hp
  have h1 : b * 2 ^ k ||| a = b * 2 ^ k + a := by rw [← Nat.shiftLeft_eq, Nat.shiftLeft_add_eq_or_of_lt ha]
  have h3 : UInt64.ofNat (b * 2 ^ k) ||| UInt64.ofNat a = UInt64.ofNat (b * 2 ^ k + a) := UInt64.toNat_inj.mp (by rw [UInt64.toNat_or, u_tn (by omega), u_tn (by omega), u_tn h, h1])
  have h2 := congrArg UInt64.toInt64 h3
  exact h2
end
section
/-! sums and counts -/
noncomputable def tg_b (P : Prop) : Nat := @ite Nat P (Classical.propDecidable P) 1 0
theorem tg_bt {P : Prop} (h : P) : tg_b P = 1 := by unfold tg_b; rw [if_pos h]
theorem tg_bf {P : Prop} (h : ¬ P) : tg_b P = 0 := by unfold tg_b; rw [if_neg h]
theorem tg_b1 (P : Prop) : tg_b P ≤ 1 := by
  rcases Classical.em P with h | h
  · rw [tg_bt h]; omega
  · rw [tg_bf h]; omega
theorem tg_bc {P Q : Prop} (h : P ↔ Q) : tg_b P = tg_b Q := by rw [propext h]
theorem tg_bn {P : Prop} (h : tg_b P ≠ 0) : P := Classical.byContradiction fun z => h (tg_bf z)
theorem tg_bm {P Q : Prop} (h : P → Q) : tg_b P ≤ tg_b Q := by
  rcases Classical.em P with hp | hp
  · rw [tg_bt hp, tg_bt (h hp)]; omega
  · rw [tg_bf hp]; omega
def tg_sm (F : Nat → Nat) : Nat → Nat
  | 0 => 0
  | k + 1 => tg_sm F k + F k
theorem tg_sm_congr {F G : Nat → Nat} : ∀ {n : Nat}, (∀ k, k < n → F k = G k) → tg_sm F n = tg_sm G n
  | 0, _ => rfl
  | n + 1, h => by
    simp only [tg_sm]
    rw [tg_sm_congr (n := n) (fun k hk => h k (by omega)), h n (by omega)]
theorem tg_sm_mono {F G : Nat → Nat} : ∀ {n : Nat}, (∀ k, k < n → F k ≤ G k) → tg_sm F n ≤ tg_sm G n
  | 0, _ => Nat.le_refl _
  | n + 1, h => by
    simp only [tg_sm]
    have a := tg_sm_mono (n := n) (fun k hk => h k (by omega))
    have b := h n (by omega)
    omega
theorem tg_sm_add (F G : Nat → Nat) : ∀ (n : Nat), tg_sm (fun k => F k + G k) n = tg_sm F n + tg_sm G n
  | 0 => rfl
  | n + 1 => by
    simp only [tg_sm]
    rw [tg_sm_add F G n]; omega
theorem tg_sm_rm {F : Nat → Nat} {a : Nat} : ∀ {n : Nat}, a < n → tg_sm F n = tg_sm (fun k => if k = a then 0 else F k) n + F a
  | 0, h => absurd h (by omega)
  | n + 1, h => by
    simp only [tg_sm]
    rcases Nat.lt_or_ge a n with z | z
    · have e := tg_sm_rm (F := F) z
      have e2 : (if n = a then 0 else F n) = F n := if_neg (by omega)
      omega
    · have e : a = n := by omega
      subst e
      have e1 : tg_sm F a = tg_sm (fun k => if k = a then 0 else F k) a := tg_sm_congr (fun k hk => (if_neg (by omega)).symm)
      have e2 : (if a = a then 0 else F a) = 0 := if_pos rfl
      omega
theorem tg_sm_inj (φ : Nat → Nat) {n : Nat} : ∀ (m : Nat) (G F : Nat → Nat), (∀ w, w < m → G w ≠ 0 → φ w < n ∧ G w ≤ F (φ w)) → (∀ w w', w < m → w' < m → G w ≠ 0 → G w' ≠ 0 → φ w = φ w' → w = w') → tg_sm G m ≤ tg_sm F n
  | 0, _, _, _, _ => Nat.zero_le _
  | m + 1, G, F, h1, h2 => by
    simp only [tg_sm]
    by_cases z : G m = 0
    · have := tg_sm_inj φ m G F (fun w hw => h1 w (by omega)) (fun w w' hw hw' => h2 w w' (by omega) (by omega))
      omega
    · obtain ⟨a1, a2⟩ := h1 m (by omega) z
      have e := tg_sm_rm (F := F) a1
      have := tg_sm_inj φ m G (fun k => if k = φ m then 0 else F k) (fun w hw gz => by
        obtain ⟨b1, b2⟩ := h1 w (by omega) gz
        refine ⟨b1, ?_⟩
        have hne : ¬ φ w = φ m := fun e => by
          have := h2 w m (by omega) (by omega) gz z e
          omega
        show G w ≤ if φ w = φ m then 0 else F (φ w)
        rw [if_neg hne]; exact b2) (fun w w' hw hw' => h2 w w' (by omega) (by omega))
      omega
noncomputable def tg_cn (P : Nat → Prop) (n : Nat) : Nat := tg_sm (fun k => tg_b (P k)) n
theorem tg_cn_s (P : Nat → Prop) (n : Nat) : tg_cn P (n + 1) = tg_cn P n + tg_b (P n) := rfl
theorem tg_cn_0 (P : Nat → Prop) : tg_cn P 0 = 0 := rfl
theorem tg_cn_eq {P Q : Nat → Prop} {n : Nat} (h : ∀ k, k < n → (P k ↔ Q k)) : tg_cn P n = tg_cn Q n := tg_sm_congr fun k hk => tg_bc (h k hk)
theorem tg_cn_mono {P Q : Nat → Prop} {n : Nat} (h : ∀ k, k < n → P k → Q k) : tg_cn P n ≤ tg_cn Q n := tg_sm_mono fun k hk => tg_bm (h k hk)
theorem tg_cn_zero {P : Nat → Prop} : ∀ {n : Nat}, (∀ k, k < n → ¬ P k) → tg_cn P n = 0
  | 0, _ => rfl
  | n + 1, h => by rw [tg_cn_s, tg_cn_zero (n := n) (fun k hk => h k (by omega)), tg_bf (h n (by omega))]
theorem tg_cn_all {P : Nat → Prop} : ∀ {n : Nat}, (∀ k, k < n → P k) → tg_cn P n = n
  | 0, _ => rfl
  | n + 1, h => by rw [tg_cn_s, tg_cn_all (n := n) (fun k hk => h k (by omega)), tg_bt (h n (by omega))]
theorem tg_cn_le (P : Nat → Prop) (n : Nat) : tg_cn P n ≤ n := by
  have a := tg_cn_mono (P := P) (Q := fun _ => True) (n := n) (fun _ _ _ => trivial)
  have b := tg_cn_all (P := fun _ => True) (n := n) (fun _ _ => trivial)
  omega
theorem tg_cn_add {P : Nat → Prop} {a n : Nat} (ha : a < n) (hp : ¬ P a) : tg_cn (fun k => P k ∨ k = a) n = tg_cn P n + 1 := by
  have e : tg_cn (fun k => P k ∨ k = a) n = tg_sm (fun k => if k = a then 0 else tg_b (P k ∨ k = a)) n + tg_b (P a ∨ a = a) := tg_sm_rm ha
  have e1 : tg_b (P a ∨ a = a) = 1 := tg_bt (Or.inr rfl)
  have e2 : tg_sm (fun k => if k = a then 0 else tg_b (P k ∨ k = a)) n = tg_cn P n := tg_sm_congr fun k hk => by
    show (if k = a then 0 else tg_b (P k ∨ k = a)) = tg_b (P k)
    by_cases z : k = a
    · rw [if_pos z, z, tg_bf hp]
    · rw [if_neg z]; exact tg_bc ⟨fun q => q.elim id (fun y => absurd y z), Or.inl⟩
  omega
theorem tg_cn_lt {P Q : Nat → Prop} {a n : Nat} (ha : a < n) (hp : ¬ P a) (hq : Q a) (h : ∀ k, k < n → P k → Q k) : tg_cn P n < tg_cn Q n := by
  have e := tg_cn_add ha hp
  have e2 := tg_cn_mono (P := fun k => P k ∨ k = a) (Q := Q) (n := n) (fun k hk z => z.elim (h k hk) (fun y => y ▸ hq))
  omega
theorem tg_cn_one {P : Nat → Prop} {a n : Nat} (ha : a < n) (hp : P a) (h : ∀ k, k < n → P k → k = a) : tg_cn P n = 1 := by
  have e := tg_cn_add (P := fun _ => False) ha (fun z => z)
  have e0 := tg_cn_zero (P := fun _ => False) (n := n) (fun _ _ z => z)
  have e2 := tg_cn_eq (P := P) (Q := fun k => False ∨ k = a) (n := n) (fun k hk => ⟨fun z => Or.inr (h k hk z), fun z => z.elim False.elim (fun y => y ▸ hp)⟩)
  omega
theorem tg_cn_ex {P : Nat → Prop} {n : Nat} (h : 0 < tg_cn P n) : ∃ k, k < n ∧ P k := Classical.byContradiction fun z => by
  have := tg_cn_zero (P := P) (n := n) (fun k hk hp => z ⟨k, hk, hp⟩)
  omega
theorem tg_cn_pos {P : Nat → Prop} {a n : Nat} (ha : a < n) (hp : P a) : 0 < tg_cn P n := by
  have := tg_cn_lt (P := fun _ => False) (Q := P) ha (fun z => z) hp (fun _ _ z => z.elim)
  omega
theorem tg_cn_two {P : Nat → Prop} {a b n : Nat} (ha : a < n) (hb : b < n) (hp : P a) (hq : P b) (hne : a ≠ b) : 2 ≤ tg_cn P n := by
  have e := tg_cn_one (P := fun k => k = a) ha rfl (fun _ _ z => z)
  have := tg_cn_lt (P := fun k => k = a) (Q := P) hb (fun z => hne z.symm) hq (fun _ _ z => z ▸ hp)
  omega
theorem tg_cn_uniq {P : Nat → Prop} {a b n : Nat} (h : tg_cn P n ≤ 1) (ha : a < n) (hb : b < n) (hp : P a) (hq : P b) : a = b := Classical.byContradiction fun z => by
  have := tg_cn_two ha hb hp hq z
  omega
theorem tg_cn_2ex {P : Nat → Prop} {n : Nat} (h : 2 ≤ tg_cn P n) {a : Nat} (ha : a < n) : ∃ b, b < n ∧ b ≠ a ∧ P b := Classical.byContradiction fun z => by
  have e := tg_cn_one (P := fun k => k = a) ha rfl (fun _ _ z => z)
  have := tg_cn_mono (P := P) (Q := fun k => k = a) (n := n) (fun k hk hp => Classical.byContradiction fun y => z ⟨k, hk, y, hp⟩)
  omega
/-! permutations -/
def tg_IP (n : Nat) (p : Nat → Nat) : Prop := (∀ i, i < n → p i < n) ∧ ∀ i j, i < n → j < n → p i = p j → i = j
theorem tg_surj {n : Nat} {p : Nat → Nat} (h : tg_IP n p) {b : Nat} (hb : b < n) : ∃ a, a < n ∧ p a = b := Classical.byContradiction fun z => by
  have e0 := tg_cn_all (P := fun _ => True) (n := n) (fun _ _ => trivial)
  have e1 : tg_cn (fun _ => True) n ≤ tg_cn (fun b => ∃ a, a < n ∧ p a = b) n := tg_sm_inj p n _ _ (fun w hw _ => ⟨h.1 w hw, by
    show tg_b True ≤ tg_b (∃ a, a < n ∧ p a = p w)
    exact tg_bm fun _ => ⟨w, hw, rfl⟩⟩) (fun w w' hw hw' _ _ e => h.2 w w' hw hw' e)
  have e2 := tg_cn_lt (P := fun b => ∃ a, a < n ∧ p a = b) (Q := fun _ => True) hb z trivial (fun _ _ _ => trivial)
  omega
theorem tg_inv {n : Nat} {p : Nat → Nat} (h : tg_IP n p) : ∃ q, tg_IP n q ∧ (∀ i, i < n → p (q i) = i) ∧ ∀ i, i < n → q (p i) = i := by
  have hx : ∀ i, ∃ a, i < n → (a < n ∧ p a = i) := fun i => by
    by_cases z : i < n
    · obtain ⟨a, ha⟩ := tg_surj h z
      exact ⟨a, fun _ => ha⟩
    · exact ⟨0, fun y => absurd y z⟩
  obtain ⟨q, hq⟩ := Classical.axiomOfChoice hx
  refine ⟨q, ⟨fun i hi => (hq i hi).1, fun i j hi hj e => ?_⟩, fun i hi => (hq i hi).2, fun i hi => ?_⟩
  · rw [← (hq i hi).2, ← (hq j hj).2, e]
  · exact h.2 _ _ (hq _ (h.1 i hi)).1 hi (hq _ (h.1 i hi)).2
theorem tg_IPc {n : Nat} {p q : Nat → Nat} (hp : tg_IP n p) (hq : tg_IP n q) : tg_IP n (fun i => p (q i)) := ⟨fun i hi => hp.1 _ (hq.1 i hi), fun i j hi hj e => hq.2 i j hi hj (hp.2 _ _ (hq.1 i hi) (hq.1 j hj) e)⟩
theorem tg_IPid (n : Nat) : tg_IP n (fun i => i) := ⟨fun _ h => h, fun _ _ _ _ e => e⟩
theorem tg_IPe {n : Nat} {p q : Nat → Nat} (h : ∀ i, i < n → q i = p i) (hp : tg_IP n p) : tg_IP n q := ⟨fun i hi => by rw [h i hi]; exact hp.1 i hi, fun i j hi hj e => hp.2 i j hi hj (by rw [← h i hi, ← h j hj]; exact e)⟩
theorem tg_sm_perm {n : Nat} {p : Nat → Nat} (h : tg_IP n p) (F : Nat → Nat) : tg_sm (fun k => F (p k)) n = tg_sm F n := by
  obtain ⟨q, hq, h1, h2⟩ := tg_inv h
  refine Nat.le_antisymm (tg_sm_inj p n _ _ (fun w hw _ => ⟨h.1 w hw, Nat.le_refl _⟩) (fun w w' hw hw' _ _ e => h.2 w w' hw hw' e)) (tg_sm_inj q n _ _ (fun w hw _ => ⟨hq.1 w hw, ?_⟩) (fun w w' hw hw' _ _ e => hq.2 w w' hw hw' e))
  show F w ≤ F (p (q w))
  rw [h1 w hw]; exact Nat.le_refl _
theorem tg_cn_perm {n : Nat} {p : Nat → Nat} (h : tg_IP n p) (P : Nat → Prop) : tg_cn (fun k => P (p k)) n = tg_cn P n := tg_sm_perm h (fun k => tg_b (P k))
end
section
/-! the rank of a permutation: its place in the lexicographic order -/
def tg_fac : Nat → Nat
  | 0 => 1
  | m + 1 => (m + 1) * tg_fac m
theorem tg_fac_pos : ∀ m, 0 < tg_fac m
  | 0 => Nat.one_pos
  | m + 1 => Nat.mul_pos (Nat.succ_pos m) (tg_fac_pos m)
theorem tg_fac_s (m : Nat) : tg_fac (m + 1) = m * tg_fac m + tg_fac m := by
  show (m + 1) * tg_fac m = _
  rw [Nat.add_mul, Nat.one_mul]
theorem tg_fac7 : ∀ m, m < 8 → tg_fac m ≤ 5040 := by decide +kernel
noncomputable def tg_lv (n : Nat) (p : Nat → Nat) (i : Nat) : Nat := tg_cn (fun b => b < p i ∧ ∀ k, k < i → p k ≠ b) n
noncomputable def tg_rk (n : Nat) (p : Nat → Nat) : Nat → Nat
  | 0 => 0
  | m + 1 => tg_lv n p (n - (m + 1)) * tg_fac m + tg_rk n p m
theorem tg_rk_s (n : Nat) (p : Nat → Nat) (m : Nat) : tg_rk n p (m + 1) = tg_lv n p (n - (m + 1)) * tg_fac m + tg_rk n p m := rfl
theorem tg_free {n : Nat} {p : Nat → Nat} (h : tg_IP n p) : ∀ i, i ≤ n → tg_cn (fun b => ∀ k, k < i → p k ≠ b) n + i = n
  | 0, _ => by
    have := tg_cn_all (P := fun b => ∀ k, k < 0 → p k ≠ b) (n := n) (fun b _ k hk => absurd hk (by omega))
    omega
  | i + 1, hi => by
    have ih := tg_free h i (by omega)
    have e := tg_cn_add (P := fun b => ∀ k, k < i + 1 → p k ≠ b) (h.1 i (by omega)) (fun z => z i (by omega) rfl)
    have e2 := tg_cn_eq (P := fun b => ∀ k, k < i → p k ≠ b) (Q := fun b => (∀ k, k < i + 1 → p k ≠ b) ∨ b = p i) (n := n) (fun b _ => ⟨fun z => by
      by_cases y : b = p i
      · exact Or.inr y
      · refine Or.inl fun k hk => ?_
        rcases Nat.lt_or_ge k i with x | x
        · exact z k x
        · have : k = i := by omega
          subst this
          exact fun w => y w.symm, fun z k hk => by
      rcases z with z | z
      · exact z k (by omega)
      · rw [z]
        intro w
        have := h.2 k i (by omega) (by omega) w
        omega⟩)
    omega
theorem tg_lv_add {n : Nat} {p : Nat → Nat} (h : tg_IP n p) {i : Nat} (hi : i < n) (hd : ∀ l, i < l → l < n → p l < p i) : tg_lv n p i + i + 1 = n := by
  have f := tg_free h i (by omega)
  have e := tg_cn_add (P := fun b => b < p i ∧ ∀ k, k < i → p k ≠ b) (h.1 i hi) (fun z => absurd z.1 (by omega))
  have e2 := tg_cn_eq (P := fun b => ∀ k, k < i → p k ≠ b) (Q := fun b => (b < p i ∧ ∀ k, k < i → p k ≠ b) ∨ b = p i) (n := n) (fun b hb => ⟨fun z => by
    obtain ⟨l, hl, el⟩ := tg_surj h hb
    rcases Nat.lt_trichotomy l i with y | y | y
    · exact absurd el (z l y)
    · subst y; exact Or.inr el.symm
    · have := hd l y hl
      exact Or.inl ⟨by omega, z⟩, fun z k hk => by
    rcases z with z | z
    · exact z.2 k hk
    · rw [z]
      intro w
      have := h.2 k i (by omega) hi w
      omega⟩)
  show tg_cn (fun b => b < p i ∧ ∀ k, k < i → p k ≠ b) n + i + 1 = n
  omega
theorem tg_lv_lt {n : Nat} {p : Nat → Nat} (h : tg_IP n p) {i : Nat} (hi : i < n) : tg_lv n p i + i < n := by
  have f := tg_free h i (by omega)
  have := tg_cn_lt (P := fun b => b < p i ∧ ∀ k, k < i → p k ≠ b) (Q := fun b => ∀ k, k < i → p k ≠ b) (h.1 i hi) (fun z => absurd z.1 (by omega)) (fun k hk w => by
    have := h.2 k i (by omega) hi w
    omega) (fun b _ z => z.2)
  show tg_cn (fun b => b < p i ∧ ∀ k, k < i → p k ≠ b) n + i < n
  omega
theorem tg_rk_lt {n : Nat} {p : Nat → Nat} (h : tg_IP n p) : ∀ m, m ≤ n → tg_rk n p m < tg_fac m
  | 0, _ => by show 0 < 1; omega
  | m + 1, hm => by
    have ih := tg_rk_lt h m (by omega)
    have b := tg_lv_lt h (i := n - (m + 1)) (by omega)
    have c : tg_lv n p (n - (m + 1)) * tg_fac m ≤ m * tg_fac m := Nat.mul_le_mul_right _ (by omega)
    rw [tg_rk_s, tg_fac_s]
    omega
theorem tg_lv_same {n : Nat} {p q : Nat → Nat} {i : Nat} (h : ∀ k, k ≤ i → p k = q k) : tg_lv n p i = tg_lv n q i := tg_cn_eq fun b _ => by
  rw [h i (Nat.le_refl _)]
  exact ⟨fun z => ⟨z.1, fun k hk => by rw [← h k (by omega)]; exact z.2 k hk⟩, fun z => ⟨z.1, fun k hk => by rw [h k (by omega)]; exact z.2 k hk⟩⟩
theorem tg_rk_congr {n : Nat} {p q : Nat → Nat} (h : ∀ k, k < n → p k = q k) : ∀ m, m ≤ n → tg_rk n p m = tg_rk n q m
  | 0, _ => rfl
  | m + 1, hm => by rw [tg_rk_s, tg_rk_s, tg_rk_congr h m (by omega), tg_lv_same (p := p) (q := q) (fun k hk => h k (by omega))]
theorem tg_lv_less {n : Nat} {p q : Nat → Nat} (hp : tg_IP n p) {i : Nat} (hi : i < n) (he : ∀ k, k < i → p k = q k) (hl : p i < q i) : tg_lv n p i < tg_lv n q i :=
  tg_cn_lt (hp.1 i hi) (fun z => absurd z.1 (by omega)) ⟨hl, fun k hk w => by
    rw [← he k hk] at w
    have := hp.2 k i (by omega) hi w
    omega⟩ (fun b _ z => ⟨by have := z.1; omega, fun k hk => by rw [← he k hk]; exact z.2 k hk⟩)
theorem tg_rk_less {n : Nat} {p q : Nat → Nat} (hp : tg_IP n p) {i : Nat} (hi : i < n) (he : ∀ k, k < i → p k = q k) (hl : p i < q i) : ∀ m, n - i ≤ m → m ≤ n → tg_rk n p m < tg_rk n q m
  | 0, h0, _ => by omega
  | m + 1, h0, hm => by
    rw [tg_rk_s, tg_rk_s]
    by_cases z : n - i = m + 1
    · have ei : n - (m + 1) = i := by omega
      rw [ei]
      have a := tg_lv_less hp hi he hl
      have b := tg_rk_lt hp m (by omega)
      have c : (tg_lv n p i + 1) * tg_fac m ≤ tg_lv n q i * tg_fac m := Nat.mul_le_mul_right _ a
      rw [Nat.add_mul, Nat.one_mul] at c
      omega
    · have ih := tg_rk_less hp hi he hl m (by omega) (by omega)
      rw [tg_lv_same (p := p) (q := q) (i := n - (m + 1)) (fun k hk => he k (by omega))]
      omega
theorem tg_rk_inj {n : Nat} {p q : Nat → Nat} (hp : tg_IP n p) (hq : tg_IP n q) (h : tg_rk n p n = tg_rk n q n) : ∀ i, i < n → p i = q i := by
  intro i
  induction i using Nat.strongRecOn with
  | ind i ih =>
    intro hi
    rcases Nat.lt_trichotomy (p i) (q i) with z | z | z
    · have := tg_rk_less hp hi (fun k hk => ih k hk (by omega)) z n (by omega) (Nat.le_refl _)
      omega
    · exact z
    · have := tg_rk_less hq hi (fun k hk => (ih k hk (by omega)).symm) z n (by omega) (Nat.le_refl _)
      omega
theorem tg_rk_id {n : Nat} {p : Nat → Nat} (h : ∀ i, i < n → p i = i) : ∀ m, m ≤ n → tg_rk n p m = 0
  | 0, _ => rfl
  | m + 1, hm => by
    have e : tg_lv n p (n - (m + 1)) = 0 := tg_cn_zero fun b hb z => by
      rw [h _ (by omega)] at z
      exact z.2 b z.1 (h b hb)
    rw [tg_rk_s, tg_rk_id h m (by omega), e, Nat.zero_mul]
theorem tg_rk_desc {n : Nat} {p : Nat → Nat} (h : tg_IP n p) {i : Nat} (hd : ∀ k l, i ≤ k → k < l → l < n → p l < p k) : ∀ m, m + i ≤ n → tg_rk n p m + 1 = tg_fac m
  | 0, _ => rfl
  | m + 1, hm => by
    have ih := tg_rk_desc h hd m (by omega)
    have e := tg_lv_add h (i := n - (m + 1)) (by omega) (fun l h1 h2 => hd _ l (by omega) h1 h2)
    have e2 : tg_lv n p (n - (m + 1)) = m := by omega
    rw [tg_rk_s, tg_fac_s, e2]
    omega
theorem tg_rk_asc {n : Nat} {p : Nat → Nat} (h : tg_IP n p) {i : Nat} (hd : ∀ k l, i ≤ k → k < l → l < n → p k < p l) : ∀ m, m + i ≤ n → tg_rk n p m = 0
  | 0, _ => rfl
  | m + 1, hm => by
    have e : tg_lv n p (n - (m + 1)) = 0 := tg_cn_zero fun b hb z => by
      obtain ⟨l, hl, el⟩ := tg_surj h hb
      rcases Nat.lt_trichotomy l (n - (m + 1)) with y | y | y
      · exact z.2 l y el
      · rw [y] at el; have := z.1; omega
      · have a := hd (n - (m + 1)) l (by omega) y hl
        have := z.1
        omega
    rw [tg_rk_s, tg_rk_asc h hd m (by omega), e, Nat.zero_mul]
/-- descending by neighbours is descending -/
theorem tg_desc {n i : Nat} {p : Nat → Nat} (h : ∀ k, i ≤ k → k + 1 < n → p (k + 1) < p k) : ∀ k l, i ≤ k → k < l → l < n → p l < p k := by
  intro k l hk
  induction l with
  | zero => intro a; omega
  | succ l ih =>
    intro h1 h2
    by_cases z : k = l
    · subst z; exact h k hk h2
    · have a := ih (by omega) (by omega)
      have b := h l (by omega) h2
      omega
def tg_tau (n i j : Nat) (k : Nat) : Nat := if k < i then k else if k = i then j else if i + n - k = j then i else i + n - k
theorem tg_tau_IP {n i j : Nat} (hij : i < j) (hj : j < n) : tg_IP n (tg_tau n i j) := by
  refine ⟨fun k hk => ?_, fun k l hk hl e => ?_⟩
  · unfold tg_tau
    repeat' split
    all_goals omega
  · unfold tg_tau at e
    by_cases a1 : k < i
    · rw [if_pos a1] at e
      by_cases b1 : l < i
      · rw [if_pos b1] at e; exact e
      · rw [if_neg b1] at e
        by_cases b2 : l = i
        · rw [if_pos b2] at e; omega
        · rw [if_neg b2] at e
          by_cases b3 : i + n - l = j
          · rw [if_pos b3] at e; omega
          · rw [if_neg b3] at e; omega
    · rw [if_neg a1] at e
      by_cases a2 : k = i
      · rw [if_pos a2] at e
        by_cases b1 : l < i
        · rw [if_pos b1] at e; omega
        · rw [if_neg b1] at e
          by_cases b2 : l = i
          · omega
          · rw [if_neg b2] at e
            by_cases b3 : i + n - l = j
            · rw [if_pos b3] at e; omega
            · rw [if_neg b3] at e; omega
      · rw [if_neg a2] at e
        by_cases a3 : i + n - k = j
        · rw [if_pos a3] at e
          by_cases b1 : l < i
          · rw [if_pos b1] at e; omega
          · rw [if_neg b1] at e
            by_cases b2 : l = i
            · rw [if_pos b2] at e; omega
            · rw [if_neg b2] at e
              by_cases b3 : i + n - l = j
              · omega
              · rw [if_neg b3] at e; omega
        · rw [if_neg a3] at e
          by_cases b1 : l < i
          · rw [if_pos b1] at e; omega
          · rw [if_neg b1] at e
            by_cases b2 : l = i
            · rw [if_pos b2] at e; omega
            · rw [if_neg b2] at e
              by_cases b3 : i + n - l = j
              · rw [if_pos b3] at e; omega
              · rw [if_neg b3] at e; omega
/-- one step to the next order -/
theorem tg_next {n i j : Nat} {p p' : Nat → Nat} (hp : tg_IP n p) (hij : i < j) (hj : j < n) (hd : ∀ k, i + 1 ≤ k → k + 1 < n → p (k + 1) < p k) (hl : p i < p j) (hr : ∀ k, j < k → k < n → p k < p i) (he : ∀ k, k < n → p' k = p (tg_tau n i j k)) : tg_IP n p' ∧ tg_rk n p' n = tg_rk n p n + 1 := by
  have hp' : tg_IP n p' := tg_IPe he (tg_IPc hp (tg_tau_IP hij hj))
  refine ⟨hp', ?_⟩
  have hD := tg_desc hd
  have e1 : ∀ k, k < i → p' k = p k := fun k hk => by rw [he k (by omega)]; unfold tg_tau; rw [if_pos hk]
  have e2 : p' i = p j := by rw [he i (by omega)]; unfold tg_tau; rw [if_neg (by omega), if_pos rfl]
  have e3 : ∀ k, i < k → k < n → i + n - k = j → p' k = p i := fun k h1 h2 h3 => by rw [he k h2]; unfold tg_tau; rw [if_neg (by omega), if_neg (by omega), if_pos h3]
  have e4 : ∀ k, i < k → k < n → i + n - k ≠ j → p' k = p (i + n - k) := fun k h1 h2 h3 => by rw [he k h2]; unfold tg_tau; rw [if_neg (by omega), if_neg (by omega), if_neg h3]
  have hA : ∀ k l, i + 1 ≤ k → k < l → l < n → p' k < p' l := fun k l h1 h2 h3 => by
    by_cases a : i + n - k = j
    · rw [e3 k (by omega) (by omega) a, e4 l (by omega) h3 (by omega)]
      have := hD (i + n - l) j (by omega) (by omega) hj
      omega
    · rw [e4 k (by omega) (by omega) a]
      by_cases b : i + n - l = j
      · rw [e3 l (by omega) h3 b]
        exact hr _ (by omega) (by omega)
      · rw [e4 l (by omega) h3 b]
        exact hD _ _ (by omega) (by omega) (by omega)
  have lvi : tg_lv n p' i = tg_lv n p i + 1 := by
    have e := tg_cn_add (P := fun b => b < p i ∧ ∀ k, k < i → p k ≠ b) (hp.1 i (by omega)) (fun z => absurd z.1 (by omega))
    have q := tg_cn_eq (P := fun b => b < p' i ∧ ∀ k, k < i → p' k ≠ b) (Q := fun b => (b < p i ∧ ∀ k, k < i → p k ≠ b) ∨ b = p i) (n := n) (fun b hb => ⟨fun z => by
      have z1 := z.1
      rw [e2] at z1
      obtain ⟨l, hl1, el⟩ := tg_surj hp hb
      rcases Nat.lt_trichotomy l i with y | y | y
      · exact absurd (by rw [e1 l y]; exact el) (z.2 l y)
      · subst y; exact Or.inr el.symm
      · refine Or.inl ⟨?_, fun k hk => by rw [← e1 k hk]; exact z.2 k hk⟩
        rcases Nat.lt_trichotomy l j with x | x | x
        · have := hD l j (by omega) x hj; omega
        · subst x; omega
        · have := hr l x hl1; omega, fun z => by
      rw [e2]
      refine ⟨?_, fun k hk => ?_⟩
      · rcases z with z | z
        · have := z.1; omega
        · omega
      · rw [e1 k hk]
        rcases z with z | z
        · exact z.2 k hk
        · rw [z]
          intro w
          have := hp.2 k i (by omega) (by omega) w
          omega⟩)
    exact q.trans e
  have key : ∀ m, n - i ≤ m → m ≤ n → tg_rk n p' m = tg_rk n p m + 1 := by
    intro m
    induction m with
    | zero => intro a; omega
    | succ m ih =>
      intro a b
      rw [tg_rk_s, tg_rk_s]
      by_cases z : n - i = m + 1
      · have ei : n - (m + 1) = i := by omega
        rw [ei, lvi, tg_rk_asc hp' hA m (by omega), Nat.add_mul, Nat.one_mul]
        have := tg_rk_desc hp hD m (by omega)
        omega
      · rw [ih (by omega) (by omega), tg_lv_same (p := p') (q := p) (i := n - (m + 1)) (fun k hk => e1 k (by omega))]
        omega
  exact key n (by omega) (Nat.le_refl _)
theorem tg_last {n : Nat} {p : Nat → Nat} (hp : tg_IP n p) (hd : ∀ k, k + 1 < n → p (k + 1) < p k) : tg_rk n p n + 1 = tg_fac n :=
  tg_rk_desc hp (tg_desc (i := 0) (fun k _ hk => hd k hk)) n (by omega)
end
section
/-! the number of permutations with a property, as a number of ranks -/
noncomputable def tg_nm (n : Nat) (P : (Nat → Nat) → Prop) : Nat := tg_cn (fun r => ∃ p, tg_IP n p ∧ tg_rk n p n = r ∧ P p) (tg_fac n)
theorem tg_nm_inj {n : Nat} {P Q : (Nat → Nat) → Prop} (φ : (Nat → Nat) → Nat → Nat) (h1 : ∀ p, tg_IP n p → P p → tg_IP n (φ p) ∧ Q (φ p)) (h2 : ∀ p q, tg_IP n p → tg_IP n q → (∀ i, i < n → φ p i = φ q i) → ∀ i, i < n → p i = q i) : tg_nm n P ≤ tg_nm n Q := by
  have hx : ∀ r, ∃ p, (∃ p, tg_IP n p ∧ tg_rk n p n = r ∧ P p) → tg_IP n p ∧ tg_rk n p n = r ∧ P p := fun r => by
    by_cases z : ∃ p, tg_IP n p ∧ tg_rk n p n = r ∧ P p
    · obtain ⟨p, hp⟩ := z
      exact ⟨p, fun _ => hp⟩
    · exact ⟨fun i => i, fun y => absurd y z⟩
  obtain ⟨c, hc⟩ := Classical.axiomOfChoice hx
  refine tg_sm_inj (fun r => tg_rk n (φ (c r)) n) _ _ _ (fun r hr z => ?_) (fun r s hr hs z y e => ?_)
  · obtain ⟨a1, a2, a3⟩ := hc r (tg_bn z)
    obtain ⟨b1, b2⟩ := h1 _ a1 a3
    refine ⟨tg_rk_lt b1 n (Nat.le_refl _), ?_⟩
    exact tg_bm fun _ => ⟨φ (c r), b1, rfl, b2⟩
  · obtain ⟨a1, a2, a3⟩ := hc r (tg_bn z)
    obtain ⟨c1, c2, c3⟩ := hc s (tg_bn y)
    have e1 := tg_rk_inj (h1 _ a1 a3).1 (h1 _ c1 c3).1 e
    have e2 := h2 _ _ a1 c1 e1
    rw [← a2, ← c2]
    exact tg_rk_congr e2 n (Nat.le_refl _)
theorem tg_nm_eq {n : Nat} {P Q : (Nat → Nat) → Prop} (h : ∀ p, tg_IP n p → (P p ↔ Q p)) : tg_nm n P = tg_nm n Q :=
  tg_cn_eq fun r _ => ⟨fun ⟨p, a, b, c⟩ => ⟨p, a, b, (h p a).mp c⟩, fun ⟨p, a, b, c⟩ => ⟨p, a, b, (h p a).mpr c⟩⟩
theorem tg_nm_zero {n : Nat} {P : (Nat → Nat) → Prop} (h : ∀ p, tg_IP n p → ¬ P p) : tg_nm n P = 0 :=
  tg_cn_zero fun r _ ⟨p, a, _, c⟩ => h p a c
theorem tg_nm_split {n : Nat} {P : (Nat → Nat) → Prop} {a : Nat} (ha : a < n) (b : Nat) : tg_nm n (fun p => P p ∧ p a < b + 1) = tg_nm n (fun p => P p ∧ p a < b) + tg_nm n (fun p => P p ∧ p a = b) := by
  unfold tg_nm tg_cn
  rw [← tg_sm_add]
  refine tg_sm_congr fun r hr => ?_
  by_cases z : ∃ p, tg_IP n p ∧ tg_rk n p n = r ∧ P p ∧ p a < b
  · have y : ¬ ∃ p, tg_IP n p ∧ tg_rk n p n = r ∧ P p ∧ p a = b := fun ⟨q, q1, q2, q3, q4⟩ => by
      obtain ⟨p, p1, p2, p3, p4⟩ := z
      have := tg_rk_inj p1 q1 (p2.trans q2.symm) a ha
      omega
    rw [tg_bt z, tg_bf y]
    refine tg_bt ?_
    obtain ⟨p, p1, p2, p3, p4⟩ := z
    exact ⟨p, p1, p2, p3, by omega⟩
  · rw [tg_bf z, Nat.zero_add]
    refine tg_bc ⟨fun ⟨p, p1, p2, p3, p4⟩ => ⟨p, p1, p2, p3, Classical.byContradiction fun w => z ⟨p, p1, p2, p3, by omega⟩⟩, fun ⟨p, p1, p2, p3, p4⟩ => ⟨p, p1, p2, p3, by omega⟩⟩
theorem tg_nm_one {n : Nat} {P : (Nat → Nat) → Prop} {p : Nat → Nat} (hp : tg_IP n p) (h : P p) (hu : ∀ q, tg_IP n q → P q → ∀ i, i < n → q i = p i) : tg_nm n P = 1 :=
  tg_cn_one (a := tg_rk n p n) (tg_rk_lt hp n (Nat.le_refl _)) ⟨p, hp, rfl, h⟩ (fun r _ ⟨q, q1, q2, q3⟩ => by rw [← q2]; exact tg_rk_congr (hu q q1 q3) n (Nat.le_refl _))
/-! layings -/
def tg_Ly (n : Nat) (g h : Nat → Nat → Nat) (f : Nat → Nat) : Prop := tg_IP n f ∧ ∀ a b, a < n → b < n → g a b = h (f a) (f b)
theorem tg_Ly_e {n : Nat} {g h : Nat → Nat → Nat} {f f' : Nat → Nat} (e : ∀ i, i < n → f' i = f i) (H : tg_Ly n g h f) : tg_Ly n g h f' :=
  ⟨tg_IPe e H.1, fun a b ha hb => by rw [e a ha, e b hb]; exact H.2 a b ha hb⟩
theorem tg_Ly_c {n : Nat} {g h k : Nat → Nat → Nat} {f f' : Nat → Nat} (H' : tg_Ly n h k f') (H : tg_Ly n g h f) : tg_Ly n g k (fun i => f' (f i)) :=
  ⟨tg_IPc H'.1 H.1, fun a b ha hb => (H.2 a b ha hb).trans (H'.2 _ _ (H.1.1 a ha) (H.1.1 b hb))⟩
theorem tg_Ly_id (n : Nat) (g : Nat → Nat → Nat) : tg_Ly n g g (fun i => i) := ⟨tg_IPid n, fun _ _ _ _ => rfl⟩
theorem tg_Ly_i {n : Nat} {g h : Nat → Nat → Nat} {f : Nat → Nat} (H : tg_Ly n g h f) : ∃ q, tg_Ly n h g q ∧ (∀ i, i < n → f (q i) = i) ∧ ∀ i, i < n → q (f i) = i := by
  obtain ⟨q, h1, h2, h3⟩ := tg_inv H.1
  refine ⟨q, ⟨h1, fun a b ha hb => ?_⟩, h2, h3⟩
  rw [H.2 _ _ (h1.1 a ha) (h1.1 b hb), h2 a ha, h2 b hb]
/-- left composition maps one set of layings into another -/
theorem tg_nm_comp {n : Nat} {P Q : (Nat → Nat) → Prop} {s : Nat → Nat} (hs : tg_IP n s) (h : ∀ p, tg_IP n p → P p → Q (fun i => s (p i))) : tg_nm n P ≤ tg_nm n Q :=
  tg_nm_inj (fun p i => s (p i)) (fun p a b => ⟨tg_IPc hs a, h p a b⟩) (fun p q a b e i hi => hs.2 _ _ (a.1 i hi) (b.1 i hi) (e i hi))
/-- automorphisms that fix the points below a -/
def tg_Ax (n : Nat) (g : Nat → Nat → Nat) (a : Nat) (f : Nat → Nat) : Prop := tg_Ly n g g f ∧ ∀ k, k < a → f k = k
theorem tg_orb1 {n : Nat} {g : Nat → Nat → Nat} {a b : Nat} (ha : a < n) (h : ∃ f, tg_Ax n g a f ∧ f a = b) : tg_nm n (fun p => tg_Ax n g a p ∧ p a = b) = tg_nm n (tg_Ax n g (a + 1)) := by
  obtain ⟨f, ⟨f1, f2⟩, f3⟩ := h
  obtain ⟨q, q1, q2, q3⟩ := tg_Ly_i f1
  have q4 : ∀ k, k < a → q k = k := fun k hk => by
    have := q3 k (by omega)
    rw [f2 k hk] at this
    exact this
  refine Nat.le_antisymm (tg_nm_comp q1.1 (fun p hp ⟨⟨p1, p2⟩, p3⟩ => ⟨tg_Ly_c q1 p1, fun k hk => ?_⟩)) (tg_nm_comp f1.1 (fun p hp ⟨p1, p2⟩ => ⟨⟨tg_Ly_c f1 p1, fun k hk => ?_⟩, ?_⟩))
  · show q (p k) = k
    rcases Nat.lt_or_ge k a with z | z
    · rw [p2 k z]; exact q4 k z
    · have e : k = a := by omega
      subst e
      rw [p3, ← f3]; exact q3 k ha
  · show f (p k) = k
    rw [p2 k (by omega)]; exact f2 k hk
  · show f (p a) = b
    rw [p2 a (by omega)]; exact f3
theorem tg_orb2 {n : Nat} {g : Nat → Nat → Nat} {a : Nat} (ha : a < n) : ∀ b, tg_nm n (fun p => tg_Ax n g a p ∧ p a < b) = tg_cn (fun c => ∃ f, tg_Ax n g a f ∧ f a = c) b * tg_nm n (tg_Ax n g (a + 1))
  | 0 => by rw [tg_cn_0, Nat.zero_mul]; exact tg_nm_zero fun p _ z => absurd z.2 (by omega)
  | b + 1 => by
    rw [tg_nm_split ha b, tg_orb2 ha b, tg_cn_s, Nat.add_mul]
    by_cases z : ∃ f, tg_Ax n g a f ∧ f a = b
    · rw [tg_orb1 ha z, tg_bt z, Nat.one_mul]
    · rw [tg_bf z, Nat.zero_mul]
      have : tg_nm n (fun p => tg_Ax n g a p ∧ p a = b) = 0 := tg_nm_zero fun p _ y => z ⟨p, y⟩
      omega
theorem tg_orb {n : Nat} {g : Nat → Nat → Nat} {a : Nat} (ha : a < n) : tg_nm n (tg_Ax n g a) = tg_cn (fun c => ∃ f, tg_Ax n g a f ∧ f a = c) n * tg_nm n (tg_Ax n g (a + 1)) := by
  rw [← tg_orb2 ha n]
  exact tg_nm_eq fun p hp => ⟨fun z => ⟨z, hp.1 a ha⟩, fun z => z.1⟩
theorem tg_orbE {n : Nat} {g : Nat → Nat → Nat} : tg_nm n (tg_Ax n g n) = 1 :=
  tg_nm_one (tg_IPid n) ⟨tg_Ly_id n g, fun _ _ => rfl⟩ (fun q _ z i hi => z.2 i hi)
theorem tg_orb0 {n : Nat} {g : Nat → Nat → Nat} : tg_nm n (tg_Ax n g 0) = tg_nm n (tg_Ly n g g) :=
  tg_nm_eq fun p _ => ⟨fun z => z.1, fun z => ⟨z, fun k hk => absurd hk (by omega)⟩⟩
/-- the size of an orbit counts a itself and what lies above it -/
theorem tg_orbS {n : Nat} {g : Nat → Nat → Nat} {a : Nat} (ha : a < n) : ∀ b, a < b → b ≤ n → tg_cn (fun c => ∃ f, tg_Ax n g a f ∧ f a = c) b = tg_cn (fun c => a < c ∧ ∃ f, tg_Ax n g a f ∧ f a = c) b + 1 := by
  intro b hb hn
  rw [← tg_cn_add (P := fun c => a < c ∧ ∃ f, tg_Ax n g a f ∧ f a = c) hb (fun z => absurd z.1 (by omega))]
  refine tg_cn_eq fun c hc => ⟨fun ⟨f, f1, f2⟩ => ?_, fun z => ?_⟩
  · rcases Nat.lt_trichotomy c a with z | z | z
    · have e : f c = f a := by rw [f1.2 c z, f2]
      have := f1.1.1.2 c a (by omega) ha e
      omega
    · exact Or.inr z
    · exact Or.inl ⟨z, f, f1, f2⟩
  · rcases z with z | z
    · exact z.2
    · exact ⟨fun i => i, ⟨tg_Ly_id n g, fun _ _ => rfl⟩, z.symm⟩
/-- all layings: as many as automorphisms, or none -/
theorem tg_tors {n : Nat} {g h : Nat → Nat → Nat} (H : ∃ f, tg_Ly n g h f) : tg_nm n (tg_Ly n g h) = tg_nm n (tg_Ly n g g) := by
  obtain ⟨f, f1⟩ := H
  obtain ⟨q, q1, q2, q3⟩ := tg_Ly_i f1
  exact Nat.le_antisymm (tg_nm_comp q1.1 (fun p _ z => tg_Ly_c q1 z)) (tg_nm_comp f1.1 (fun p _ z => tg_Ly_c f1 z))
theorem tg_tors0 {n : Nat} {g h : Nat → Nat → Nat} (H : ¬ ∃ f, tg_Ly n g h f) : tg_nm n (tg_Ly n g h) = 0 := tg_nm_zero fun p _ z => H ⟨p, z⟩
end
section
/-! the code of an order, and what a finished depth of the search knows -/
def tg_rw (g : Nat → Nat → Nat) (p : Nat → Nat) (v : Nat) : Nat → Nat
  | 0 => 0
  | k + 1 => 4 * tg_rw g p v k + g v (p k)
def tg_row (g : Nat → Nat → Nat) (p : Nat → Nat) (v d : Nat) : Nat := 4 * tg_rw g p v d + g v v
def tg_wd (g : Nat → Nat → Nat) (p : Nat → Nat) : Nat → Nat
  | 0 => 0
  | d + 1 => tg_wd g p d * 2 ^ (2 * (d + 1)) + tg_row g p (p d) d
theorem tg_p4 (k : Nat) : 2 ^ (2 * (k + 1)) = 2 ^ (2 * k) * 4 := by
  rw [show 2 * (k + 1) = 2 * k + 2 by omega, Nat.pow_add]
theorem tg_rw_lt {g : Nat → Nat → Nat} (hg : ∀ a b, g a b < 4) (p : Nat → Nat) (v : Nat) : ∀ k, tg_rw g p v k < 2 ^ (2 * k)
  | 0 => by show 0 < 1; omega
  | k + 1 => by
    have ih := tg_rw_lt hg p v k
    have h := hg v (p k)
    rw [tg_p4]
    show 4 * tg_rw g p v k + g v (p k) < _
    omega
theorem tg_row_lt {g : Nat → Nat → Nat} (hg : ∀ a b, g a b < 4) (p : Nat → Nat) (v d : Nat) : tg_row g p v d < 2 ^ (2 * (d + 1)) := by
  have ih := tg_rw_lt hg p v d
  have h := hg v v
  rw [tg_p4]
  show 4 * tg_rw g p v d + g v v < _
  omega
theorem tg_wd_lt {g : Nat → Nat → Nat} (hg : ∀ a b, g a b < 4) (p : Nat → Nat) : ∀ d, tg_wd g p d < 2 ^ (d * (d + 1))
  | 0 => by show 0 < 1; omega
  | d + 1 => by
    have ih := tg_wd_lt hg p d
    have h := tg_row_lt hg p (p d) d
    have e : 2 ^ ((d + 1) * (d + 1 + 1)) = 2 ^ (d * (d + 1)) * 2 ^ (2 * (d + 1)) := by
      rw [← Nat.pow_add]; congr 1
      rw [Nat.add_mul, Nat.mul_add d (d + 1) 1]; omega
    have c : (tg_wd g p d + 1) * 2 ^ (2 * (d + 1)) ≤ 2 ^ (d * (d + 1)) * 2 ^ (2 * (d + 1)) := Nat.mul_le_mul_right _ ih
    rw [Nat.add_mul, Nat.one_mul] at c
    rw [e]
    show tg_wd g p d * 2 ^ (2 * (d + 1)) + tg_row g p (p d) d < _
    omega
theorem tg_wd_d1 {g : Nat → Nat → Nat} (hg : ∀ a b, g a b < 4) (p : Nat → Nat) (d : Nat) : tg_wd g p (d + 1) / 2 ^ (2 * (d + 1)) = tg_wd g p d := by
  have h := tg_row_lt hg p (p d) d
  show (tg_wd g p d * 2 ^ (2 * (d + 1)) + tg_row g p (p d) d) / _ = _
  rw [Nat.add_comm, Nat.add_mul_div_right _ _ (Nat.two_pow_pos _), Nat.div_eq_of_lt h, Nat.zero_add]
theorem tg_sq (d e : Nat) : (d + e + 1) * (d + e + 1 + 1) - d * (d + 1) = 2 * (d + e + 1) + ((d + e) * (d + e + 1) - d * (d + 1)) := by
  have a : (d + e + 1) * (d + e + 1 + 1) = (d + e) * (d + e + 1) + 2 * (d + e + 1) := by
    rw [Nat.add_mul, Nat.mul_add (d + e) (d + e + 1) 1]; omega
  have b : d * (d + 1) ≤ (d + e) * (d + e + 1) := Nat.mul_le_mul (by omega) (by omega)
  omega
theorem tg_wd_div {g : Nat → Nat → Nat} (hg : ∀ a b, g a b < 4) (p : Nat → Nat) (d : Nat) : ∀ e, tg_wd g p (d + e) / 2 ^ ((d + e) * (d + e + 1) - d * (d + 1)) = tg_wd g p d
  | 0 => by
    show tg_wd g p d / 2 ^ (d * (d + 1) - d * (d + 1)) = _
    rw [Nat.sub_self, Nat.pow_zero, Nat.div_one]
  | e + 1 => by
    have ih := tg_wd_div hg p d e
    show tg_wd g p (d + e + 1) / 2 ^ ((d + e + 1) * (d + e + 1 + 1) - d * (d + 1)) = _
    rw [tg_sq, Nat.pow_add, ← Nat.div_div_eq_div_mul, tg_wd_d1 hg]
    exact ih
theorem tg_wd_dv {g : Nat → Nat → Nat} (hg : ∀ a b, g a b < 4) (p : Nat → Nat) {d n : Nat} (h : d ≤ n) : tg_wd g p n / 2 ^ (n * (n + 1) - d * (d + 1)) = tg_wd g p d := by
  have := tg_wd_div hg p d (n - d)
  rw [show d + (n - d) = n by omega] at this
  exact this
theorem tg_rw_c {g : Nat → Nat → Nat} {p q : Nat → Nat} {v : Nat} : ∀ {k : Nat}, (∀ i, i < k → p i = q i) → tg_rw g p v k = tg_rw g q v k
  | 0, _ => rfl
  | k + 1, h => by
    show 4 * tg_rw g p v k + g v (p k) = 4 * tg_rw g q v k + g v (q k)
    rw [tg_rw_c (k := k) (fun i hi => h i (by omega)), h k (by omega)]
theorem tg_row_c {g : Nat → Nat → Nat} {p q : Nat → Nat} {v d : Nat} (h : ∀ i, i < d → p i = q i) : tg_row g p v d = tg_row g q v d := by
  unfold tg_row; rw [tg_rw_c h]
theorem tg_wd_c {g : Nat → Nat → Nat} {p q : Nat → Nat} : ∀ {d : Nat}, (∀ i, i < d → p i = q i) → tg_wd g p d = tg_wd g q d
  | 0, _ => rfl
  | d + 1, h => by
    show tg_wd g p d * 2 ^ (2 * (d + 1)) + tg_row g p (p d) d = tg_wd g q d * 2 ^ (2 * (d + 1)) + tg_row g q (q d) d
    rw [tg_wd_c (d := d) (fun i hi => h i (by omega)), h d (by omega), tg_row_c (fun i hi => h i (by omega))]
theorem tg_rw_a {n : Nat} {g : Nat → Nat → Nat} {s p : Nat → Nat} (hs : tg_Ly n g g s) {v : Nat} (hv : v < n) : ∀ {k : Nat}, (∀ i, i < k → p i < n) → tg_rw g (fun i => s (p i)) (s v) k = tg_rw g p v k
  | 0, _ => rfl
  | k + 1, h => by
    show 4 * tg_rw g (fun i => s (p i)) (s v) k + g (s v) (s (p k)) = 4 * tg_rw g p v k + g v (p k)
    rw [tg_rw_a hs hv (k := k) (fun i hi => h i (by omega)), ← hs.2 v (p k) hv (h k (by omega))]
theorem tg_row_a {n : Nat} {g : Nat → Nat → Nat} {s p : Nat → Nat} (hs : tg_Ly n g g s) {v : Nat} (hv : v < n) {d : Nat} (h : ∀ i, i < d → p i < n) : tg_row g (fun i => s (p i)) (s v) d = tg_row g p v d := by
  unfold tg_row; rw [tg_rw_a hs hv h, ← hs.2 v v hv hv]
theorem tg_wd_a {n : Nat} {g : Nat → Nat → Nat} {s p : Nat → Nat} (hs : tg_Ly n g g s) : ∀ {d : Nat}, (∀ i, i < d → p i < n) → tg_wd g (fun i => s (p i)) d = tg_wd g p d
  | 0, _ => rfl
  | d + 1, h => by
    show tg_wd g (fun i => s (p i)) d * 2 ^ (2 * (d + 1)) + tg_row g (fun i => s (p i)) (s (p d)) d = tg_wd g p d * 2 ^ (2 * (d + 1)) + tg_row g p (p d) d
    rw [tg_wd_a hs (d := d) (fun i hi => h i (by omega)), tg_row_a hs (h d (by omega)) (fun i hi => h i (by omega))]
/-- two places changed with each other -/
def tg_sw (a b k : Nat) : Nat := if k = a then b else if k = b then a else k
theorem tg_sw_l (a b : Nat) : tg_sw a b a = b := if_pos rfl
theorem tg_sw_r (a b : Nat) : tg_sw a b b = a := by
  unfold tg_sw
  by_cases h : b = a
  · rw [if_pos h]; exact h
  · rw [if_neg h, if_pos rfl]
theorem tg_sw_n {a b k : Nat} (h1 : k ≠ a) (h2 : k ≠ b) : tg_sw a b k = k := by unfold tg_sw; rw [if_neg h1, if_neg h2]
theorem tg_sw_sw (a b k : Nat) : tg_sw a b (tg_sw a b k) = k := by
  by_cases h1 : k = a
  · rw [h1, tg_sw_l, tg_sw_r]
  · by_cases h2 : k = b
    · rw [h2, tg_sw_r, tg_sw_l]
    · rw [tg_sw_n h1 h2, tg_sw_n h1 h2]
theorem tg_sw_lt {a b k n : Nat} (ha : a < n) (hb : b < n) (hk : k < n) : tg_sw a b k < n := by
  unfold tg_sw
  by_cases h1 : k = a
  · rw [if_pos h1]; exact hb
  · rw [if_neg h1]
    by_cases h2 : k = b
    · rw [if_pos h2]; exact ha
    · rw [if_neg h2]; exact hk
theorem tg_sw_IP {a b n : Nat} (ha : a < n) (hb : b < n) : tg_IP n (tg_sw a b) := ⟨fun _ hk => tg_sw_lt ha hb hk, fun i j _ _ e => by rw [← tg_sw_sw a b i, e, tg_sw_sw]⟩
theorem tg_fin {n : Nat} {g : Nat → Nat → Nat} {d : Nat} {q : Nat → Nat} {best lr : Nat} (Cov : Nat → Prop) (hg : ∀ a b, g a b < 4) (hd : d < n) (hq : ∀ k, k < d → q k < n)
    (hlr : ∀ v, v < n → (∀ k, k < d → q k ≠ v) → lr ≤ tg_row g q v d) (hex : ∃ v, v < n ∧ (∀ k, k < d → q k ≠ v) ∧ tg_row g q v d = lr)
    (hcov : ∀ v, v < n → (∀ k, k < d → q k ≠ v) → Cov v → ∃ s, tg_Ly n g g s ∧ (∀ k, k < d → s (q k) = q k) ∧ s v < v)
    (hdone : ∀ v, v < n → (∀ k, k < d → q k ≠ v) → tg_row g q v d = lr → ¬ Cov v → ∀ p, tg_IP n p → (∀ k, k < d → p k = q k) → p d = v → best ≤ tg_wd g p n) :
    ∀ p, tg_IP n p → (∀ k, k < d → p k = q k) → best ≤ tg_wd g p n := by
  have c1 : ∀ v, v < n → (∀ k, k < d → q k ≠ v) → tg_row g q v d = lr → ∀ p, tg_IP n p → (∀ k, k < d → p k = q k) → p d = v → best ≤ tg_wd g p n := by
    intro v
    induction v using Nat.strongRecOn with
    | ind v ih =>
      intro hv hu hr p hp hpq hpd
      rcases Classical.em (Cov v) with z | z
      · obtain ⟨s, s1, s2, s3⟩ := hcov v hv hu z
        have e : tg_wd g (fun i => s (p i)) n = tg_wd g p n := tg_wd_a s1 (fun i hi => hp.1 i hi)
        rw [← e]
        refine ih (s v) s3 (s1.1.1 v hv) (fun k hk w => ?_) ?_ _ (tg_IPc s1.1 hp) (fun k hk => ?_) ?_
        · rw [← s2 k hk] at w
          exact hu k hk (s1.1.2 _ _ (hq k hk) hv w)
        · rw [← hr, ← tg_row_a s1 hv hq]
          exact tg_row_c fun i hi => (s2 i hi).symm
        · show s (p k) = q k
          rw [hpq k hk]; exact s2 k hk
        · show s (p d) = s v
          rw [hpd]
      · exact hdone v hv hu hr z p hp hpq hpd
  intro p hp hpq
  have hv := hp.1 d hd
  have hu : ∀ k, k < d → q k ≠ p d := fun k hk w => by
    rw [← hpq k hk] at w
    have := hp.2 k d (by omega) hd w
    omega
  have hl := hlr (p d) hv hu
  by_cases z : tg_row g q (p d) d = lr
  · exact c1 (p d) hv hu z p hp hpq rfl
  · obtain ⟨u, u1, u2, u3⟩ := hex
    obtain ⟨l, l1, l2⟩ := tg_surj hp u1
    have hld : d < l := by
      rcases Nat.lt_trichotomy l d with y | y | y
      · exact absurd (by rw [← hpq l y]; exact l2) (u2 l y)
      · subst y; rw [l2] at z; exact absurd u3 z
      · exact y
    have hp' := tg_IPc hp (tg_sw_IP hd l1)
    have hb := c1 u u1 u2 u3 _ hp' (fun k hk => by
      show p (tg_sw d l k) = q k
      rw [tg_sw_n (by omega) (by omega)]; exact hpq k hk) (by
      show p (tg_sw d l d) = u
      rw [tg_sw_l]; exact l2)
    have e0 : ∀ i, i < d → (fun i => p (tg_sw d l i)) i = p i := fun i hi => by
      show p (tg_sw d l i) = p i
      rw [tg_sw_n (by omega) (by omega)]
    have w1 : tg_wd g (fun i => p (tg_sw d l i)) (d + 1) < tg_wd g p (d + 1) := by
      show tg_wd g (fun i => p (tg_sw d l i)) d * 2 ^ (2 * (d + 1)) + tg_row g (fun i => p (tg_sw d l i)) (p (tg_sw d l d)) d < tg_wd g p d * 2 ^ (2 * (d + 1)) + tg_row g p (p d) d
      rw [tg_wd_c e0, tg_row_c e0, tg_sw_l, l2, tg_row_c hpq, tg_row_c hpq, u3]
      omega
    have w2 : tg_wd g (fun i => p (tg_sw d l i)) n ≤ tg_wd g p n := by
      rcases Nat.lt_or_ge (tg_wd g p n) (tg_wd g (fun i => p (tg_sw d l i)) n) with y | y
      · have := Nat.div_le_div_right (c := 2 ^ (n * (n + 1) - (d + 1) * (d + 1 + 1))) (Nat.le_of_lt y)
        rw [tg_wd_dv hg p (d := d + 1) hd, tg_wd_dv hg _ (d := d + 1) hd] at this
        omega
      · exact y
    omega
theorem tg_prune {n : Nat} {g : Nat → Nat → Nat} {d : Nat} {p : Nat → Nat} {best : Nat} (hg : ∀ a b, g a b < 4) (hd : d ≤ n) (h : best / 2 ^ (n * (n + 1) - d * (d + 1)) < tg_wd g p d) : best ≤ tg_wd g p n := by
  rcases Nat.lt_or_ge (tg_wd g p n) best with y | y
  · have := Nat.div_le_div_right (c := 2 ^ (n * (n + 1) - d * (d + 1))) (Nat.le_of_lt y)
    rw [tg_wd_dv hg p hd] at this
    omega
  · exact y
end
section
/-! classes of points: x points are 0 to 6, y points 7 to 13 -/
def tg_Cm (n : Nat) (K f : Nat → Nat) : Prop := ∀ v, v < n → K (7 + f v) = K v
def tg_Rg (K : Nat → Nat) (mk : Nat → Int64) (K' : Nat → Nat) : Prop := ∀ v w, v < 14 → w < 14 → (K' v = K' w ↔ K v = K w ∧ mk v = mk w)
/-- K' splits classes of K -/
def tg_Sp (K K' : Nat → Nat) : Prop := ∀ v w, v < 14 → w < 14 → K' v = K' w → K v = K w
theorem tg_Sp_r (K : Nat → Nat) : tg_Sp K K := fun _ _ _ _ e => e
theorem tg_Sp_t {K K' K'' : Nat → Nat} (h : tg_Sp K K') (h' : tg_Sp K' K'') : tg_Sp K K'' := fun v w hv hw e => h v w hv hw (h' v w hv hw e)
theorem tg_Rg_Sp {K K' : Nat → Nat} {mk : Nat → Int64} (h : tg_Rg K mk K') : tg_Sp K K' := fun v w hv hw e => ((h v w hv hw).mp e).1
def tg_MB (n : Nat) (gx gy : Nat → Nat → Nat) (K : Nat → Nat) (c : Nat) (mk : Nat → Int64) : Prop :=
  (∀ v, v < n → mk v = lN (tg_sm (fun w => if w ≠ v ∧ K w = c then 16 ^ gx v w else 0) n)) ∧ ∀ v, v < n → mk (7 + v) = lN (tg_sm (fun w => if w ≠ v ∧ K (7 + w) = c then 16 ^ gy v w else 0) n)
theorem tg_MB_i {n : Nat} {gx gy : Nat → Nat → Nat} {K f : Nat → Nat} {c : Nat} {mk : Nat → Int64} (hf : tg_Ly n gx gy f) (hc : tg_Cm n K f) (h : tg_MB n gx gy K c mk) : ∀ v, v < n → mk (7 + f v) = mk v := by
  intro v hv
  rw [h.2 _ (hf.1.1 v hv), h.1 v hv, ← tg_sm_perm hf.1]
  refine congrArg lN (tg_sm_congr fun w hw => ?_)
  have e1 : (f w ≠ f v ∧ K (7 + f w) = c) ↔ (w ≠ v ∧ K w = c) := by
    rw [hc w hw]
    exact ⟨fun z => ⟨fun y => z.1 (by rw [y]), z.2⟩, fun z => ⟨fun y => z.1 (hf.1.2 w v hw hv y), z.2⟩⟩
  show (if f w ≠ f v ∧ K (7 + f w) = c then 16 ^ gy (f v) (f w) else 0) = if w ≠ v ∧ K w = c then 16 ^ gx v w else 0
  rw [← hf.2 v w hv hw]
  by_cases z : w ≠ v ∧ K w = c
  · rw [if_pos z, if_pos (e1.mpr z)]
  · rw [if_neg z, if_neg (fun y => z (e1.mp y))]
theorem tg_Rg_Cm {n : Nat} {K K' f : Nat → Nat} {mk : Nat → Int64} (hn : n ≤ 7) (hf : ∀ v, v < n → f v < n) (hc : tg_Cm n K f) (hm : ∀ v, v < n → mk (7 + f v) = mk v) (h : tg_Rg K mk K') : tg_Cm n K' f := fun v hv =>
  (h _ _ (by have := hf v hv; omega) (by omega)).mpr ⟨hc v hv, hm v hv⟩
noncomputable def tg_S (n : Nat) (K : Nat → Nat) : Nat := tg_cn (fun v => ∃ u, u < n ∧ u ≠ v ∧ K u = K v) n
theorem tg_S_mono {n : Nat} {K K' : Nat → Nat} (hn : n ≤ 7) (h : tg_Sp K K') : tg_S n K' ≤ tg_S n K :=
  tg_cn_mono fun v hv ⟨u, hu, hne, e⟩ => ⟨u, hu, hne, h u v (by omega) (by omega) e⟩
theorem tg_S_lt {n : Nat} {K K' : Nat → Nat} {mk : Nat → Int64} {x y : Nat} (hn : n ≤ 7) (hx : x < n) (hs : ∃ u, u < n ∧ u ≠ x ∧ K u = K x) (hm : ∀ v, v < 14 → mk v = if v = x ∨ v = 7 + y then 1 else 0) (h : tg_Rg K mk K') : tg_S n K' < tg_S n K := by
  refine tg_cn_lt hx ?_ hs (fun v hv ⟨u, hu, hne, e⟩ => ⟨u, hu, hne, tg_Rg_Sp h u v (by omega) (by omega) e⟩)
  intro ⟨u, hu, hne, e⟩
  have e2 := ((h u x (by omega) (by omega)).mp e).2
  rw [hm u (by omega), hm x (by omega), if_neg (by omega), if_pos (Or.inl rfl)] at e2
  exact absurd e2 (by decide)
theorem tg_Rg_in {n : Nat} {K K' f : Nat → Nat} {mk : Nat → Int64} {x y : Nat} (hn : n ≤ 7) (hx : x < n) (hf : tg_IP n f) (hc : tg_Cm n K f) (hy : f x = y) (hm : ∀ v, v < 14 → mk v = if v = x ∨ v = 7 + y then 1 else 0) (h : tg_Rg K mk K') : tg_Cm n K' f := by
  refine tg_Rg_Cm hn hf.1 hc (fun v hv => ?_) h
  have hfv := hf.1 v hv
  rw [hm _ (by omega), hm v (by omega)]
  by_cases z : v = x
  · subst z; rw [if_pos (Or.inr (by omega)), if_pos (Or.inl rfl)]
  · rw [if_neg, if_neg]
    · omega
    · intro w
      rcases w with w | w
      · omega
      · have e : f v = f x := by omega
        exact z (hf.2 v x hv hx e)
/-- the pins hold in the classes -/
def tg_PS (n np : Nat) (px py K : Nat → Nat) : Prop := ∀ v w, v < n → w < n → K v = K (7 + w) → ∀ k, k < np → (v = px k ↔ w = py k)
theorem tg_PS_m {n np : Nat} {px py K K' : Nat → Nat} (hn : n ≤ 7) (h : tg_Sp K K') (H : tg_PS n np px py K) : tg_PS n np px py K' := fun v w hv hw e => H v w hv hw (h v (7 + w) (by omega) (by omega) e)
noncomputable def tg_xc (n : Nat) (K : Nat → Nat) (c : Nat) : Nat := tg_cn (fun v => K v = c) n
noncomputable def tg_yc (n : Nat) (K : Nat → Nat) (c : Nat) : Nat := tg_cn (fun v => K (7 + v) = c) n
theorem tg_bal {n : Nat} {K f : Nat → Nat} (hf : tg_IP n f) (hc : tg_Cm n K f) (c : Nat) : tg_xc n K c = tg_yc n K c := by
  unfold tg_xc tg_yc
  rw [← tg_cn_perm hf (fun w => K (7 + w) = c)]
  exact tg_cn_eq fun v hv => by rw [hc v hv]
theorem tg_leaf {n : Nat} {K : Nat → Nat} (hn : n ≤ 7) (hk : ∀ v, v < 14 → K v < 14) (hb : ∀ c, c < 14 → tg_xc n K c = tg_yc n K c) (h1 : ∀ c, c < 14 → tg_xc n K c ≤ 1) : ∃ f, tg_IP n f ∧ tg_Cm n K f ∧ ∀ v w, v < n → w < n → K (7 + w) = K v → w = f v := by
  have hx : ∀ v, ∃ w, v < n → (w < n ∧ K (7 + w) = K v) := fun v => by
    by_cases z : v < n
    · have a : 0 < tg_xc n K (K v) := tg_cn_pos z rfl
      rw [hb _ (hk v (by omega))] at a
      obtain ⟨w, w1, w2⟩ := tg_cn_ex a
      exact ⟨w, fun _ => ⟨w1, w2⟩⟩
    · exact ⟨0, fun y => absurd y z⟩
  obtain ⟨f, hf⟩ := Classical.axiomOfChoice hx
  refine ⟨f, ⟨fun v hv => (hf v hv).1, fun v w hv hw e => ?_⟩, fun v hv => (hf v hv).2, fun v w hv hw e => ?_⟩
  · refine tg_cn_uniq (P := fun u => K u = K v) (h1 (K v) (hk v (by omega))) hv hw rfl ?_
    show K w = K v
    rw [← (hf v hv).2, ← (hf w hw).2, e]
  · have a := h1 (K v) (hk v (by omega))
    rw [hb _ (hk v (by omega))] at a
    exact tg_cn_uniq (P := fun u => K (7 + u) = K v) a hw (hf v hv).1 e (hf v hv).2
def tg_GP (n : Nat) (gx gy : Nat → Nat → Nat) (np : Nat) (px py : Nat → Nat) (f : Nat → Nat) : Prop := tg_Ly n gx gy f ∧ ∀ k, k < np → f (px k) = py k
theorem tg_leafP {n np : Nat} {px py K f : Nat → Nat} (hf : tg_IP n f) (hc : tg_Cm n K f) (hp : tg_PS n np px py K) (hx : ∀ k, k < np → px k < n) : ∀ k, k < np → f (px k) = py k := fun k hk =>
  (hp (px k) (f (px k)) (hx k hk) (hf.1 _ (hx k hk)) (hc _ (hx k hk)).symm k hk).mp rfl
def tg_T : Nat → Nat
  | 0 => 1
  | k + 1 => 2 + (k + 1) * (1 + tg_T k)
theorem tg_T7 : ∀ k, k ≤ 7 → tg_T k ≤ 36059 := by decide +kernel
/-- the choices that are left at a depth -/
noncomputable def tg_C (n : Nat) (K : Nat → Nat) (x j : Nat) : Nat := tg_cn (fun y => j ≤ y ∧ K (7 + y) = K x) n
theorem tg_C_0 {n : Nat} {K : Nat → Nat} {x : Nat} (hk : K x < 14) (hb : ∀ c, c < 14 → tg_xc n K c = tg_yc n K c) (hx : x < n) (hs : ∃ u, u < n ∧ u ≠ x ∧ K u = K x) : tg_C n K x 0 ≤ tg_S n K := by
  have e : tg_C n K x 0 = tg_yc n K (K x) := tg_cn_eq fun y _ => ⟨fun z => z.2, fun z => ⟨Nat.zero_le _, z⟩⟩
  rw [e, ← hb _ hk]
  refine tg_cn_mono fun v hv e => ?_
  by_cases z : v = x
  · subst z; exact hs
  · exact ⟨x, hx, fun w => z w.symm, e.symm⟩
theorem tg_C_s {n : Nat} {K : Nat → Nat} {x j y : Nat} (h1 : j ≤ y) (h2 : y < n) (h3 : K (7 + y) = K x) : tg_C n K x (y + 1) + 1 ≤ tg_C n K x j :=
  tg_cn_lt h2 (fun z => absurd z.1 (by omega)) ⟨h1, h3⟩ (fun k _ z => ⟨by have := z.1; omega, z.2⟩)
end
section
/-! the class's small methods, and regroup -/
def tg_g (c : Nat → Nat) (a u v : Nat) : Nat := c (49 * a + 7 * u + v)
theorem xx_ix (a u v : Nat) : ((49 * nI a) + (7 * nI u)) + nI v = nI (49 * a + 7 * u + v) := by
  rw [show (49 : Int32) = nI 49 from rfl, show (7 : Int32) = nI 7 from rfl, pk_mul, pk_mul, nI_add, nI_add]
theorem xx_7 (u : Nat) : nI (7 + u) - 7 = nI u := by
  rw [show (7 : Int32) = nI 7 from rfl, pk_sub (by omega)]
  exact congrArg nI (by omega)
theorem xx_iy (a u v : Nat) : (((49 * nI a) + (7 * (nI (7 + u) - 7))) + nI (7 + v)) - 7 = nI (49 * a + 7 * u + v) := by
  rw [xx_7, xx_ix, show (7 : Int32) = nI 7 from rfl, pk_sub (by omega)]
  exact congrArg nI (by omega)
theorem xx_14 (d v : Nat) : (14 * nI d) + nI v = nI (14 * d + v) := by
  rw [show (14 : Int32) = nI 14 from rfl, pk_mul, nI_add]
theorem xx_s1 (x : Int32) : x - 1 = x + (-1) := Int32.sub_eq_add_neg x 1
theorem xx_neg : nI 0 + (-1) < 0 := by decide
theorem xx_upd {f : Nat → Int32} {k : Nat} {x : Int32} {j : Nat} : upd f k x j = if j = k then x else f j := rfl
theorem xx_updL {f : Nat → Int64} {k : Nat} {x : Int64} {j : Nat} : vp_updL f k x j = if j = k then x else f j := rfl
def tg_CL (d : Nat) (K : Nat → Nat) (cl : Nat → Int32) : Prop := ∀ w, w < 14 → cl (14 * d + w) = nI (K w) ∧ K w < 14
def tg_Fr (d : Nat) (cl cl' : Nat → Int32) : Prop := ∀ i, i < 14 * d → cl' i = cl i
def tg_LS (K : Nat → Nat) (mk : Nat → Int64) (v l : Nat) : Prop := l ≤ v ∧ (K l = K v ∧ mk l = mk v) ∧ ∀ w, w < l → ¬ (K w = K v ∧ mk w = mk v)
section
variable {n : Nat} {gX gY fp : Int32} {fb : Int64} {fh : Int32} {ce pX pY cl fr : Nat → Int32} {mk : Nat → Int64} {cX nY im pl nP : Nat → Int32} {wo lr : Nat → Int64} {ob : Nat → Int32} {c : Nat → Nat} {ga gb : Nat}
theorem xx_ptT {post : Int32 → Prop} {a : Nat} (hn : n ≤ 7) (ha : a < n) (h : post 1) : wpX_isPoint post (nI n, gX, gY, fp, fb, fh, ce, pX, pY, cl, fr, mk, cX, nY, im, pl, nP, wo, lr, ob) (nI a) :=
  br_f (nI_pos (by omega)) (br_f (nI_ge ha (by omega)) h)
theorem xx_ptF {post : Int32 → Prop} {x : Int32} (hx : x < 0 ∨ nI n ≤ x) (h : post 0) : wpX_isPoint post (nI n, gX, gY, fp, fb, fh, ce, pX, pY, cl, fr, mk, cX, nY, im, pl, nP, wo, lr, ob) x := by
  by_cases z : x < 0
  · exact br_t z h
  · exact br_f z (br_t (hx.resolve_left z) h)
theorem xx_us {post : Int32 → Prop} {v : Nat} (hn : n ≤ 7) (hv : v < 14) (h1 : (v < n ∨ 7 ≤ v ∧ v < 7 + n) → post 1) (h0 : ¬ (v < n ∨ 7 ≤ v ∧ v < 7 + n) → post 0) : wpX_inUse post (nI n, gX, gY, fp, fb, fh, ce, pX, pY, cl, fr, mk, cX, nY, im, pl, nP, wo, lr, ob) (nI v) := by
  unfold wpX_inUse
  refine pk_le 7 v (fun h => ?_) (fun h => ?_)
  · exact pk_le n (v - 7) (fun h' => h0 (by omega)) (fun h' => h1 (by omega)) rfl (pk_sub (b := 7) h)
  · exact pk_le n v (fun h' => h0 (by omega)) (fun h' => h1 (by omega))
theorem xx_shx {post : Int32 → Prop} {u v : Nat} (hc : ∀ i, ce i = nI (c i)) (ha : ga < 2) (hu : u < 7) (hv : v < 7) (h : post (nI (tg_g c ga u v))) : wpX_shade post (nI n, nI ga, nI gb, fp, fb, fh, ce, pX, pY, cl, fr, mk, cX, nY, im, pl, nP, wo, lr, ob) (nI u) (nI v) := by
  unfold wpX_shade
  refine br_f (nI_ge (b := 7) hu (by decide)) ⟨pk_in _ 98 (by omega) (xx_ix ga u v), ?_⟩
  rw [pk_cl _ (xx_ix ga u v), hc]
  exact h
theorem xx_shy {post : Int32 → Prop} {u v : Nat} (hc : ∀ i, ce i = nI (c i)) (ha : gb < 2) (hu : u < 7) (hv : v < 7) (h : post (nI (tg_g c gb u v))) : wpX_shade post (nI n, nI ga, nI gb, fp, fb, fh, ce, pX, pY, cl, fr, mk, cX, nY, im, pl, nP, wo, lr, ob) (nI (7 + u)) (nI (7 + v)) := by
  unfold wpX_shade
  refine br_t (nI_le (a := 7) (by omega) (by omega)) ⟨pk_in _ 98 (by omega) (xx_iy gb u v), ?_⟩
  rw [pk_cl _ (xx_iy gb u v), hc]
  exact h
/-! regroup -/
theorem xx_rg18 {post : Int32 → SX → Prop} {J4 : Int32 → (Nat → Int32) → (Nat → Int32) → (Nat → Int32) → (Nat → Int32) → (Nat → Int32) → (Nat → Int64) → (Nat → Int32) → (Nat → Int32) → (Nat → Int32) → (Nat → Int32) → (Nat → Int32) → (Nat → Int64) → (Nat → Int64) → (Nat → Int32) → Prop} {x2 : Int32} {d v : Nat} {K : Nat → Nat} (hd : d ≤ 8) (hv : v < 14) (hcl : tg_CL d K cl)
    (hJ : ∀ l, tg_LS K mk v l → J4 (nI (v + 1)) ce pX pY cl (upd fr v (nI l)) mk cX nY im pl nP wo lr ob) : ∀ (u fu l : Nat), u ≤ l → u < fu → l ≤ v → (K l = K v ∧ mk l = mk v) → (∀ w, u ≤ w → w < l → ¬ (K w = K v ∧ mk w = mk v)) → wX_regroup_18 post J4 (nI d) x2 (nI v) (nI n) gX gY fp fb fh ce pX pY cl fr mk cX nY im pl nP wo lr ob fu (nI l) (nI u + (-1)) := by
  intro u
  induction u with
  | zero =>
    intro fu l h1 h2 h3 h4 h5
    obtain ⟨fu, rfl⟩ : ∃ q, fu = q + 1 := ⟨fu - 1, by omega⟩
    refine br_t xx_neg ⟨vp_in_nI hv (by decide), ?_⟩
    rw [nI_clamp (by omega)]
    refine nm_e (nm_r (nI_1 v) (hJ l ⟨h3, h4, fun w hw => h5 w (by omega) hw⟩))
  | succ w ih =>
    intro fu l h1 h2 h3 h4 h5
    obtain ⟨fu, rfl⟩ : ∃ q, fu = q + 1 := ⟨fu - 1, by omega⟩
    rw [pk_m1]
    refine br_f (nI_pos (by omega)) ⟨pk_in _ 128 (by omega) (xx_14 d w), pk_in _ 128 (by omega) (xx_14 d v), ?_⟩
    rw [pk_cl _ (xx_14 d w), pk_cl _ (xx_14 d v), (hcl w (by omega)).1, (hcl v hv).1]
    have b1 := (hcl w (by omega)).2
    have b2 := (hcl v hv).2
    refine pk_eq (K w) (K v) (fun e => ⟨vp_in_nI (by omega) (by decide), vp_in_nI hv (by decide), ?_⟩) (fun e => nm_e (ih fu l (by omega) (by omega) h3 h4 (fun z z1 z2 => ?_)))
    · rw [nI_clamp (by omega), nI_clamp (by omega)]
      refine br_c (fun e2 => nm_e (ih fu w (Nat.le_refl _) (by omega) (by omega) ⟨e, e2⟩ (fun z z1 z2 => by omega))) (fun e2 => nm_e (ih fu l (by omega) (by omega) h3 h4 (fun z z1 z2 => ?_)))
      by_cases y : z = w
      · subst y; exact fun q => e2 q.2
      · exact h5 z (by omega) z2
    · by_cases y : z = w
      · subst y; exact fun q => e q.1
      · exact h5 z (by omega) z2
theorem xx_rg92 {post : Int32 → SX → Prop} {d : Nat} (hd : d ≤ 8)
    (hJ : ∀ r cl', (r = 0 ∨ r = 1) → (∀ w, w < 14 → cl' (14 * d + w) = fr w) → tg_Fr d cl cl' → post r (nI n, gX, gY, fp, fb, fh, ce, pX, pY, cl', fr, mk, cX, nY, im, pl, nP, wo, lr, ob)) : ∀ (m v fu : Nat) (x2 : Int32) (cl' : Nat → Int32), v + m = 14 → m < fu → (x2 = 0 ∨ x2 = 1) → (∀ w, w < v → cl' (14 * d + w) = fr w) → tg_Fr d cl cl' → wX_regroup_92 post (nI d) (nI n) gX gY fp fb fh fu x2 (nI v) ce pX pY cl' fr mk cX nY im pl nP wo lr ob := by
  intro m
  induction m with
  | zero =>
    intro v fu x2 cl' h1 h2 h3 h4 h5
    obtain ⟨fu, rfl⟩ : ∃ q, fu = q + 1 := ⟨fu - 1, by omega⟩
    refine br_t (nI_le (a := 14) (by omega) (by omega)) ⟨?_, hJ x2 cl' h3 (fun w hw => h4 w (by omega)) h5⟩
    rcases h3 with h3 | h3 <;> subst h3 <;> rfl
  | succ m ih =>
    intro v fu x2 cl' h1 h2 h3 h4 h5
    obtain ⟨fu, rfl⟩ : ∃ q, fu = q + 1 := ⟨fu - 1, by omega⟩
    refine br_f (nI_ge (b := 14) (by omega) (by decide)) ⟨pk_in _ 128 (by omega) (xx_14 d v), vp_in_nI (by omega) (by decide), ?_⟩
    rw [pk_cl _ (xx_14 d v), nI_clamp (by omega)]
    refine br_c (fun e => nm_r (nI_1 v) (ih (v + 1) fu x2 cl' (by omega) (by omega) h3 (fun w hw => ?_) h5)) (fun e => ⟨vp_in_nI (by omega) (by decide), pk_in _ 128 (by omega) (xx_14 d v), nm_e (nm_r (nI_1 v) (ih (v + 1) fu 1 (upd cl' (14 * d + v) (fr v)) (by omega) (by omega) (Or.inr rfl) (fun w hw => ?_) (fun i hi => ?_)))⟩)
    · by_cases y : w = v
      · subst y; exact e
      · exact h4 w (by omega)
    · by_cases y : w = v
      · subst y; exact pk_us
      · rw [pk_un (by omega)]; exact h4 w (by omega)
    · rw [pk_un (by omega)]; exact h5 i hi
theorem xx_rg4 {post : Int32 → SX → Prop} {x2 : Int32} {d : Nat} {K : Nat → Nat} (hd : d ≤ 8) (hcl : tg_CL d K cl)
    (hJ : ∀ fr', (∀ v, v < 14 → ∃ l, tg_LS K mk v l ∧ fr' v = nI l) → ∃ fu, wX_regroup_92 post (nI d) (nI n) gX gY fp fb fh fu x2 0 ce pX pY cl fr' mk cX nY im pl nP wo lr ob) : ∀ (m v fu : Nat) (fr' : Nat → Int32), v + m = 14 → m < fu → (∀ w, w < v → ∃ l, tg_LS K mk w l ∧ fr' w = nI l) → wX_regroup_4 post (nI d) x2 (nI n) gX gY fp fb fh fu (nI v) ce pX pY cl fr' mk cX nY im pl nP wo lr ob := by
  intro m
  induction m with
  | zero =>
    intro v fu fr' h1 h2 h3
    obtain ⟨fu, rfl⟩ : ∃ q, fu = q + 1 := ⟨fu - 1, by omega⟩
    exact br_t (nI_le (a := 14) (by omega) (by omega)) (hJ fr' (fun w hw => h3 w (by omega)))
  | succ m ih =>
    intro v fu fr' h1 h2 h3
    obtain ⟨fu, rfl⟩ : ∃ q, fu = q + 1 := ⟨fu - 1, by omega⟩
    refine br_f (nI_ge (b := 14) (by omega) (by decide)) (nm_r (xx_s1 _) ⟨v + 1, ?_⟩)
    refine xx_rg18 hd (by omega) hcl (fun l hl => ih (v + 1) fu _ (by omega) (by omega) (fun w hw => ?_)) v (v + 1) v (Nat.le_refl _) (by omega) (Nat.le_refl _) ⟨rfl, rfl⟩ (fun w a b => by omega)
    by_cases y : w = v
    · subst y; exact ⟨l, hl, pk_us⟩
    · rw [pk_un y]; exact h3 w (by omega)
theorem xx_rg {post : Int32 → SX → Prop} {d : Nat} {K : Nat → Nat} (hd : d ≤ 8) (hcl : tg_CL d K cl)
    (h : ∀ r cl' fr' K', (r = 0 ∨ r = 1) → tg_CL d K' cl' → tg_Fr d cl cl' → tg_Rg K mk K' → post r (nI n, gX, gY, fp, fb, fh, ce, pX, pY, cl', fr', mk, cX, nY, im, pl, nP, wo, lr, ob)) : wpX_regroup post (nI n, gX, gY, fp, fb, fh, ce, pX, pY, cl, fr, mk, cX, nY, im, pl, nP, wo, lr, ob) (nI d) := by
  unfold wpX_regroup
  refine ⟨15, xx_rg4 hd hcl (fun fr' hf => ⟨15, xx_rg92 hd (fun r cl' hr h1 h2 => ?_) 14 0 15 0 cl (by omega) (by omega) (Or.inl rfl) (fun w hw => absurd hw (by omega)) (fun i _ => rfl)⟩) 14 0 15 fr (by omega) (by omega) (fun w hw => absurd hw (by omega))⟩
  have hl : ∀ v, v < 14 → tg_LS K mk v (fr' v).toNatClampNeg ∧ fr' v = nI (fr' v).toNatClampNeg := fun v hv => by
    obtain ⟨l, l1, l2⟩ := hf v hv
    rw [l2, nI_clamp (by have := l1.1; omega)]
    exact ⟨l1, rfl⟩
  refine h r cl' fr' (fun v => (fr' v).toNatClampNeg) hr (fun w hw => ?_) h2 (fun v w hv hw => ⟨fun e => ?_, fun e => ?_⟩)
  · exact ⟨by rw [h1 w hw]; exact (hl w hw).2, by have := (hl w hw).1.1; show (fr' w).toNatClampNeg < 14; omega⟩
  · have a := (hl v hv).1.2.1
    have b := (hl w hw).1.2.1
    have e' : (fr' v).toNatClampNeg = (fr' w).toNatClampNeg := e
    rw [e'] at a
    exact ⟨a.1.symm.trans b.1, a.2.symm.trans b.2⟩
  · show (fr' v).toNatClampNeg = (fr' w).toNatClampNeg
    have a := (hl v hv).1
    have b := (hl w hw).1
    rcases Nat.lt_trichotomy (fr' v).toNatClampNeg (fr' w).toNatClampNeg with y | y | y
    · exact absurd ⟨a.2.1.1.trans e.1, a.2.1.2.trans e.2⟩ (b.2.2 _ y)
    · exact y
    · exact absurd ⟨b.2.1.1.trans e.1.symm, b.2.1.2.trans e.2.symm⟩ (a.2.2 _ y)
end
end
section
/-! startClasses -/
def tg_K0 (n w : Nat) : Nat := if w < n ∨ 7 ≤ w ∧ w < 7 + n then 0 else w
def tg_PN (n np : Nat) (pX pY : Nat → Int32) (px py : Nat → Nat) : Prop :=
  (∀ k, k < np → (pX k = nI (px k) ∧ px k < n) ∧ pY k = nI (py k) ∧ py k < n) ∧ (∀ j k, j < k → k < np → px j ≠ px k) ∧ ∀ j k, j < k → k < np → py j ≠ py k
def tg_PM1 (n k : Nat) (px : Nat → Nat) (gx : Nat → Nat → Nat) (M : Nat → Nat) : Prop :=
  ∀ v, v < n → (∀ j, j < k → px j = v → M v = gx v v + 4 * (j + 1)) ∧ ((∀ j, j < k → px j ≠ v) → M v = gx v v)
theorem tg_PM1_s {n k : Nat} {px : Nat → Nat} {gx : Nat → Nat → Nat} {M M' : Nat → Nat} (h : tg_PM1 n k px gx M) (hd : ∀ j, j < k → px j ≠ px k) (hk : px k < n) (e1 : M' (px k) = M (px k) + 4 * (k + 1)) (e2 : ∀ v, v < n → v ≠ px k → M' v = M v) : tg_PM1 n (k + 1) px gx M' := by
  intro v hv
  refine ⟨fun j hj e => ?_, fun z => ?_⟩
  · by_cases y : j = k
    · subst y
      rw [← e, e1, ((h _ hk).2 hd)]
    · rw [e2 v hv (fun w => hd j (by omega) (e.trans w))]
      exact (h v hv).1 j (by omega) e
  · rw [e2 v hv (fun w => z k (by omega) w.symm)]
    exact (h v hv).2 (fun j hj => z j (by omega))
theorem tg_PM1_b {n k : Nat} {px : Nat → Nat} {gx : Nat → Nat → Nat} {M : Nat → Nat} (h : tg_PM1 n k px gx M) (hk : k ≤ 7) (hg : ∀ a b, gx a b < 4) {v : Nat} (hv : v < n) : M v < 64 := by
  have g := hg v v
  rcases Classical.em (∃ j, j < k ∧ px j = v) with ⟨j, j1, j2⟩ | z
  · rw [(h v hv).1 j j1 j2]; omega
  · rw [(h v hv).2 (fun j j1 j2 => z ⟨j, j1, j2⟩)]; omega
/-- the first classes: the pins hold, and every laying that keeps the pins keeps the classes -/
theorem tg_st {n np : Nat} {px py K K' : Nat → Nat} {gx gy : Nat → Nat → Nat} {M : Nat → Nat} {mk : Nat → Int64} (hn : n ≤ 7) (hp : np ≤ 7) (hx : ∀ k, k < np → px k < n) (hg : ∀ a b, gx a b < 4) (hh : ∀ a b, gy a b < 4)
    (hK : ∀ v, v < n → K v = 0 ∧ K (7 + v) = 0) (hm : ∀ w, w < 14 → mk w = lN (M w)) (h1 : tg_PM1 n np px gx M) (h2 : tg_PM1 n np py gy (fun v => M (7 + v))) (hr : tg_Rg K mk K') :
    tg_PS n np px py K' ∧ ∀ f, tg_GP n gx gy np px py f → tg_Cm n K' f := by
  constructor
  · intro v w hv hw e k hk
    have e2 := ((hr v (7 + w) (by omega) (by omega)).mp e).2
    rw [hm v (by omega), hm (7 + w) (by omega)] at e2
    have b1 := tg_PM1_b h1 hp hg hv
    have b2 : M (7 + w) < 64 := tg_PM1_b h2 hp hh hw
    rw [pk_lEQ (by omega) (by omega)] at e2
    have c1 := hg v v
    have c2 := hh w w
    constructor
    · intro z
      have a := (h1 v hv).1 k hk z.symm
      refine Classical.byContradiction fun y => ?_
      rcases Classical.em (∃ j, j < np ∧ py j = w) with ⟨j, j1, j2⟩ | x
      · have b : M (7 + w) = gy w w + 4 * (j + 1) := (h2 w hw).1 j j1 j2
        have : j = k := by omega
        subst this
        exact y j2.symm
      · have b : M (7 + w) = gy w w := (h2 w hw).2 (fun j j1 j2 => x ⟨j, j1, j2⟩)
        omega
    · intro z
      have a : M (7 + w) = gy w w + 4 * (k + 1) := (h2 w hw).1 k hk z.symm
      refine Classical.byContradiction fun y => ?_
      rcases Classical.em (∃ j, j < np ∧ px j = v) with ⟨j, j1, j2⟩ | x
      · have b := (h1 v hv).1 j j1 j2
        have : j = k := by omega
        subst this
        exact y j2.symm
      · have b := (h1 v hv).2 (fun j j1 j2 => x ⟨j, j1, j2⟩)
        omega
  · intro f hf
    refine tg_Rg_Cm hn hf.1.1.1 (fun v hv => ?_) (fun v hv => ?_) hr
    · rw [(hK v hv).1, (hK _ (hf.1.1.1 v hv)).2]
    · have hfv := hf.1.1.1 v hv
      rw [hm _ (by omega), hm v (by omega)]
      refine congrArg lN ?_
      have ge := hf.1.2 v v hv hv
      rcases Classical.em (∃ j, j < np ∧ px j = v) with ⟨j, j1, j2⟩ | x
      · have a := (h1 v hv).1 j j1 j2
        have b : M (7 + f v) = gy (f v) (f v) + 4 * (j + 1) := (h2 _ hfv).1 j j1 (by rw [← hf.2 j j1, j2])
        omega
      · have a := (h1 v hv).2 (fun j j1 j2 => x ⟨j, j1, j2⟩)
        have b : M (7 + f v) = gy (f v) (f v) := (h2 _ hfv).2 (fun j j1 j2 => x ⟨j, j1, by
          rw [← hf.2 j j1] at j2
          exact hf.1.1.2 _ _ (hx j j1) hv j2⟩)
        omega
section
variable {n : Nat} {gX gY fp : Int32} {fb : Int64} {fh : Int32} {ce pX pY cl fr : Nat → Int32} {mk : Nat → Int64} {cX nY im pl nP : Nat → Int32} {wo lr : Nat → Int64} {ob : Nat → Int32} {c : Nat → Nat} {ga gb : Nat}
theorem xx_st26 {post : SX → Prop} {J2 : Int32 → (Nat → Int32) → (Nat → Int32) → (Nat → Int32) → (Nat → Int32) → (Nat → Int32) → (Nat → Int64) → (Nat → Int32) → (Nat → Int32) → (Nat → Int32) → (Nat → Int32) → (Nat → Int32) → (Nat → Int64) → (Nat → Int64) → (Nat → Int32) → Prop} {v z : Nat} (hn : n ≤ 7) (hv : v < 14) (hc : ∀ i, ce i = nI (c i)) (h4 : ∀ i, c i < 4) (ha : ga < 2) (hb : gb < 2)
    (hJ : ∀ m, (v < n → m = tg_g c ga v v) → (7 ≤ v → v < 7 + n → m = tg_g c gb (v - 7) (v - 7)) → J2 (nI (v + 1)) ce pX pY (upd cl v (nI z)) fr (vp_updL mk v (lN m)) cX nY im pl nP wo lr ob) : wX_startClasses_26 post J2 (nI v) (nI z) (nI v) (nI n) (nI ga) (nI gb) fp fb fh ce pX pY cl fr mk cX nY im pl nP wo lr ob := by
  unfold wX_startClasses_26
  refine ⟨vp_in_nI (by omega) (by decide), ?_⟩
  rw [nI_clamp (by omega)]
  refine nm_e (xx_us hn hv (fun h => br_f (by decide) ?_) (fun h => br_t rfl ⟨vp_in_nI hv (by decide), nm_e (nm_r (nI_1 v) (hJ 0 (fun y => absurd (Or.inl y) h) (fun y y' => absurd (Or.inr ⟨y, y'⟩) h)))⟩))
  by_cases y : v < 7
  · refine xx_shx hc ha y y ⟨vp_in_nI hv (by decide), ?_⟩
    rw [nI_l (by have := h4 (49 * ga + 7 * v + v); unfold tg_g; omega)]
    exact nm_e (nm_r (nI_1 v) (hJ _ (fun _ => rfl) (fun q _ => absurd q (by omega))))
  · obtain ⟨a, rfl⟩ : ∃ a, v = 7 + a := ⟨v - 7, by omega⟩
    refine xx_shy hc hb (by omega) (by omega) ⟨vp_in_nI hv (by decide), ?_⟩
    rw [nI_l (by have := h4 (49 * gb + 7 * a + a); unfold tg_g; omega)]
    exact nm_e (nm_r (nI_1 (7 + a)) (hJ _ (fun q => absurd q (by omega)) (fun _ _ => by rw [show 7 + a - 7 = a by omega])))
theorem xx_st2 {post : SX → Prop} (hn : n ≤ 7) (hc : ∀ i, ce i = nI (c i)) (h4 : ∀ i, c i < 4) (ha : ga < 2) (hb : gb < 2)
    (hJ : ∀ (cl : Nat → Int32) (mk : Nat → Int64) (M : Nat → Nat), (∀ w, w < 14 → cl w = nI (tg_K0 n w)) → (∀ w, w < 14 → mk w = lN (M w)) → (∀ v, v < n → M v = tg_g c ga v v) → (∀ v, v < n → M (7 + v) = tg_g c gb v v) → ∃ fu, wX_startClasses_60 post (nI n) (nI ga) (nI gb) fp fb fh fu 0 ce pX pY cl fr mk cX nY im pl nP wo lr ob) :
    ∀ (m v fu : Nat) (cl : Nat → Int32) (mk : Nat → Int64) (M : Nat → Nat), v + m = 14 → m < fu → (∀ w, w < v → cl w = nI (tg_K0 n w) ∧ mk w = lN (M w) ∧ (w < n → M w = tg_g c ga w w) ∧ (7 ≤ w → w < 7 + n → M w = tg_g c gb (w - 7) (w - 7))) → wX_startClasses_2 post (nI n) (nI ga) (nI gb) fp fb fh fu (nI v) ce pX pY cl fr mk cX nY im pl nP wo lr ob := by
  intro m
  induction m with
  | zero =>
    intro v fu cl mk M h1 h2 h3
    obtain ⟨fu, rfl⟩ : ∃ q, fu = q + 1 := ⟨fu - 1, by omega⟩
    refine br_t (nI_le (a := 14) (by omega) (by omega)) (hJ cl mk M (fun w hw => (h3 w (by omega)).1) (fun w hw => (h3 w (by omega)).2.1) (fun w hw => (h3 w (by omega)).2.2.1 hw) (fun w hw => ?_))
    have := (h3 (7 + w) (by omega)).2.2.2 (by omega) (by omega)
    rw [show 7 + w - 7 = w by omega] at this
    exact this
  | succ m ih =>
    intro v fu cl mk M h1 h2 h3
    obtain ⟨fu, rfl⟩ : ∃ q, fu = q + 1 := ⟨fu - 1, by omega⟩
    have key : ∀ z, z = tg_K0 n v → ∀ q, (v < n → q = tg_g c ga v v) → (7 ≤ v → v < 7 + n → q = tg_g c gb (v - 7) (v - 7)) → wX_startClasses_2 post (nI n) (nI ga) (nI gb) fp fb fh fu (nI (v + 1)) ce pX pY (upd cl v (nI z)) fr (vp_updL mk v (lN q)) cX nY im pl nP wo lr ob := fun z hz q q1 q2 => by
      refine ih (v + 1) fu _ _ (fun w => if w = v then q else M w) (by omega) (by omega) (fun w hw => ?_)
      by_cases y : w = v
      · subst y
        rw [pk_us, pk_uLs, if_pos rfl, hz]
        exact ⟨rfl, rfl, q1, q2⟩
      · rw [pk_un y, pk_uLn y, if_neg y]
        exact h3 w (by omega)
    refine br_f (nI_ge (b := 14) (by omega) (by decide)) (xx_us hn (by omega) (fun h => br_f (by decide) ?_) (fun h => br_t rfl ?_))
    · exact xx_st26 (z := 0) hn (by omega) hc h4 ha hb (key 0 (by unfold tg_K0; rw [if_pos h]))
    · exact xx_st26 (z := v) hn (by omega) hc h4 ha hb (key v (by unfold tg_K0; rw [if_neg h]))
theorem xx_st60 {post : SX → Prop} {np : Nat} {px py K : Nat → Nat} (hn : n ≤ 7) (hp : np ≤ 7) (hpn : tg_PN n np pX pY px py) (hcl : tg_CL 0 K cl)
    (hJ : ∀ (cl' fr' : Nat → Int32) (mk' : Nat → Int64) (M K' : Nat → Nat), (∀ w, w < 14 → mk' w = lN (M w)) → tg_PM1 n np px (tg_g c ga) M → tg_PM1 n np py (tg_g c gb) (fun v => M (7 + v)) → tg_CL 0 K' cl' → tg_Rg K mk' K' → post (nI n, nI ga, nI gb, nI np, fb, fh, ce, pX, pY, cl', fr', mk', cX, nY, im, pl, nP, wo, lr, ob)) :
    ∀ (m k fu : Nat) (mk : Nat → Int64) (M : Nat → Nat), k + m = np → m < fu → (∀ w, w < 14 → mk w = lN (M w)) → tg_PM1 n k px (tg_g c ga) M → tg_PM1 n k py (tg_g c gb) (fun v => M (7 + v)) → wX_startClasses_60 post (nI n) (nI ga) (nI gb) (nI np) fb fh fu (nI k) ce pX pY cl fr mk cX nY im pl nP wo lr ob := by
  intro m
  induction m with
  | zero =>
    intro k fu mk M h1 h2 h3 h4 h5
    obtain ⟨fu, rfl⟩ : ∃ q, fu = q + 1 := ⟨fu - 1, by omega⟩
    obtain rfl : k = np := by omega
    refine br_t (nI_le (Nat.le_refl _) (by omega)) (xx_rg (d := 0) (by omega) hcl (fun r cl' fr' K' hr z1 z2 z3 => ?_))
    exact hJ cl' fr' mk M K' h3 h4 h5 z1 z3
  | succ m ih =>
    intro k fu mk M h1 h2 h3 h4 h5
    obtain ⟨fu, rfl⟩ : ∃ q, fu = q + 1 := ⟨fu - 1, by omega⟩
    obtain ⟨⟨e1, b1⟩, e2, b2⟩ := hpn.1 k (by omega)
    have e7 : 7 + pY k = nI (7 + py k) := by rw [e2, show (7 : Int32) = nI 7 from rfl, nI_add]
    have e8 : 4 * (nI k + 1) = nI (4 * (k + 1)) := by rw [nI_1, show (4 : Int32) = nI 4 from rfl, pk_mul]
    refine br_f (nI_ge (by omega) (by omega)) ⟨vp_in_nI (by omega) (by decide), ?_⟩
    rw [nI_clamp (by omega), e1, e8, nI_l (by omega), nI_clamp (by omega)]
    refine ⟨vp_in_nI (by omega) (by decide), vp_in_nI (by omega) (by decide), nm_e ⟨vp_in_nI (by omega) (by decide), ?_⟩⟩
    rw [e7, nI_clamp (by omega)]
    refine ⟨vp_in_nI (by omega) (by decide), vp_in_nI (by omega) (by decide), nm_e (nm_r (nI_1 k) ?_)⟩
    refine ih (k + 1) fu _ (fun w => if w = px k ∨ w = 7 + py k then M w + 4 * (k + 1) else M w) (by omega) (by omega) (fun w hw => ?_) ?_ ?_
    · by_cases y : w = 7 + py k
      · subst y
        rw [pk_uLs, pk_uLn (by omega), h3 _ (by omega), if_pos (Or.inr rfl), lN_add]
      · rw [pk_uLn y]
        by_cases x : w = px k
        · subst x
          rw [pk_uLs, h3 _ (by omega), if_pos (Or.inl rfl), lN_add]
        · rw [pk_uLn x, if_neg (by omega)]; exact h3 w hw
    · refine tg_PM1_s h4 (fun j hj => hpn.2.1 j k hj (by omega)) b1 (if_pos (Or.inl rfl)) (fun v hv hne => if_neg (by omega))
    · refine tg_PM1_s h5 (fun j hj => hpn.2.2 j k hj (by omega)) b2 (if_pos (Or.inr rfl)) (fun v hv hne => if_neg (by omega))
theorem xx_st {post : SX → Prop} {np : Nat} {px py : Nat → Nat} (hn : n ≤ 7) (hp : np ≤ 7) (hpn : tg_PN n np pX pY px py) (hc : ∀ i, ce i = nI (c i)) (h4 : ∀ i, c i < 4) (ha : ga < 2) (hb : gb < 2)
    (hJ : ∀ cl fr mk K, tg_CL 0 K cl → tg_PS n np px py K → (∀ f, tg_GP n (tg_g c ga) (tg_g c gb) np px py f → tg_Cm n K f) → post (nI n, nI ga, nI gb, nI np, fb, fh, ce, pX, pY, cl, fr, mk, cX, nY, im, pl, nP, wo, lr, ob)) : wpX_startClasses post (nI n, nI ga, nI gb, nI np, fb, fh, ce, pX, pY, cl, fr, mk, cX, nY, im, pl, nP, wo, lr, ob) := by
  unfold wpX_startClasses
  refine ⟨15, xx_st2 hn hc h4 ha hb (fun cl mk M z1 z2 z3 z4 => ⟨np + 1, ?_⟩) 14 0 15 cl mk (fun _ => 0) (by omega) (by omega) (fun w hw => absurd hw (by omega))⟩
  refine xx_st60 (c := c) (K := tg_K0 n) hn hp hpn (fun w hw => ?_) (fun cl' fr' mk' M' K' y1 y2 y3 y4 y5 => ?_) np 0 (np + 1) mk M (by omega) (by omega) z2 (fun v hv => ⟨fun j hj => absurd hj (by omega), fun _ => z3 v hv⟩) (fun v hv => ⟨fun j hj => absurd hj (by omega), fun _ => z4 v hv⟩)
  · rw [show 14 * 0 + w = w by omega]
    refine ⟨z1 w hw, ?_⟩
    unfold tg_K0
    split <;> omega
  · obtain ⟨q1, q2⟩ := tg_st hn hp (fun k hk => (hpn.1 k hk).1.2) (fun a b => h4 _) (fun a b => h4 _) (fun v hv => ⟨by unfold tg_K0; rw [if_pos (Or.inl hv)], by unfold tg_K0; rw [if_pos (Or.inr ⟨by omega, by omega⟩)]⟩) y1 y2 y3 y5
    exact hJ cl' fr' mk' K' y4 q1 q2
end
end
section
/-! markBy, refine -/
theorem xx_sl : ∀ s, s < 4 → (1 : Int64) <<< ((4 * nI s).toInt64 &&& 63) = lN (16 ^ s) := by decide +kernel
def tg_F (n : Nat) (K : Nat → Nat) (cc e a : Nat) (G : Nat → Nat → Nat) : Nat → Nat := fun w => if w ≠ a ∧ K (e + w) = cc then 16 ^ G a w else 0
section
variable {n : Nat} {gX gY fp : Int32} {fb : Int64} {fh : Int32} {ce pX pY cl fr : Nat → Int32} {mk : Nat → Int64} {cX nY im pl nP : Nat → Int32} {wo lr : Nat → Int64} {ob : Nat → Int32} {c : Nat → Nat} {ga gb : Nat}
theorem xx_mb0 {post : SX → Prop} {J2 : Int32 → (Nat → Int32) → (Nat → Int32) → (Nat → Int32) → (Nat → Int32) → (Nat → Int32) → (Nat → Int64) → (Nat → Int32) → (Nat → Int32) → (Nat → Int32) → (Nat → Int32) → (Nat → Int32) → (Nat → Int64) → (Nat → Int64) → (Nat → Int32) → Prop} {x1 x2 : Int32} {v e : Nat} (hn : n ≤ 7) (he : e ≤ 7) (hv : v < 14) (hu : ¬ (v < n ∨ 7 ≤ v ∧ v < 7 + n)) (hJ : J2 (nI (v + 1)) ce pX pY cl fr mk cX nY im pl nP wo lr ob) :
    ∀ (m w fu : Nat), w + m = n → m < fu → wX_markBy_33 post J2 x1 x2 (nI v) (nI e) (nI n) gX gY fp fb fh fu (nI (e + w)) ce pX pY cl fr mk cX nY im pl nP wo lr ob := by
  intro m
  induction m with
  | zero =>
    intro w fu h1 h2
    obtain ⟨fu, rfl⟩ : ∃ q, fu = q + 1 := ⟨fu - 1, by omega⟩
    refine br_t ?_ (nm_r (nI_1 v) hJ)
    rw [nI_add]; exact nI_le (by omega) (by omega)
  | succ m ih =>
    intro w fu h1 h2
    obtain ⟨fu, rfl⟩ : ∃ q, fu = q + 1 := ⟨fu - 1, by omega⟩
    refine br_f ?_ (xx_us hn hv (fun h => absurd h hu) (fun h => br_t rfl (nm_r (nI_1 (e + w)) (ih (w + 1) fu (by omega) (by omega)))))
    rw [nI_add]; exact nI_ge (by omega) (by omega)
theorem xx_mb33 {post : SX → Prop} {J2 : Int32 → (Nat → Int32) → (Nat → Int32) → (Nat → Int32) → (Nat → Int32) → (Nat → Int32) → (Nat → Int64) → (Nat → Int32) → (Nat → Int32) → (Nat → Int32) → (Nat → Int32) → (Nat → Int32) → (Nat → Int64) → (Nat → Int64) → (Nat → Int32) → Prop} {d cc e a : Nat} {K : Nat → Nat} {G : Nat → Nat → Nat} (hn : n ≤ 7) (hd : d ≤ 8) (he : e = 0 ∨ e = 7) (ha : a < n) (hcl : tg_CL d K cl) (hcc : cc < 14) (hG : ∀ a b, G a b < 4)
    (hsh : ∀ (post : Int32 → Prop) (mk : Nat → Int64) (w : Nat), w < n → post (nI (G a w)) → wpX_shade post (nI n, gX, gY, fp, fb, fh, ce, pX, pY, cl, fr, mk, cX, nY, im, pl, nP, wo, lr, ob) (nI (e + a)) (nI (e + w)))
    (hJ : ∀ mk', (∀ i, i ≠ e + a → mk' i = mk i) → mk' (e + a) = lN (tg_sm (tg_F n K cc e a G) n) → J2 (nI (e + a + 1)) ce pX pY cl fr mk' cX nY im pl nP wo lr ob) :
    ∀ (m w fu : Nat) (mk' : Nat → Int64), w + m = n → m < fu → (∀ i, i ≠ e + a → mk' i = mk i) → mk' (e + a) = lN (tg_sm (tg_F n K cc e a G) w) → wX_markBy_33 post J2 (nI d) (nI cc) (nI (e + a)) (nI e) (nI n) gX gY fp fb fh fu (nI (e + w)) ce pX pY cl fr mk' cX nY im pl nP wo lr ob := by
  intro m
  induction m with
  | zero =>
    intro w fu mk' h1 h2 h3 h4
    obtain ⟨fu, rfl⟩ : ∃ q, fu = q + 1 := ⟨fu - 1, by omega⟩
    obtain rfl : w = n := by omega
    refine br_t ?_ (nm_r (nI_1 (e + a)) (hJ mk' h3 h4))
    rw [nI_add]; exact nI_le (by omega) (by omega)
  | succ m ih =>
    intro w fu mk' h1 h2 h3 h4
    obtain ⟨fu, rfl⟩ : ∃ q, fu = q + 1 := ⟨fu - 1, by omega⟩
    obtain ⟨k1, k2⟩ := hcl (e + w) (by omega)
    refine br_f ?_ (xx_us hn (by omega) (fun h => br_f (by decide) ?_) (fun h => absurd (by omega) h))
    · rw [nI_add]; exact nI_ge (by omega) (by omega)
    · refine pk_eq (e + w) (e + a) (fun q => nm_r (nI_1 (e + w)) (ih (w + 1) fu mk' (by omega) (by omega) h3 ?_)) (fun q => ⟨pk_in _ 128 (by omega) (xx_14 d (e + w)), ?_⟩)
      · rw [h4]
        refine congrArg lN ?_
        show _ = tg_sm _ w + tg_F n K cc e a G w
        unfold tg_F
        rw [if_neg (by omega)]
        rfl
      · rw [pk_cl _ (xx_14 d (e + w)), k1]
        refine pk_eq (K (e + w)) cc (fun z => ⟨vp_in_nI (by omega) (by decide), hsh _ mk' w (by omega) ⟨vp_in_nI (by omega) (by decide), ?_⟩⟩) (fun z => nm_r (nI_1 (e + w)) (ih (w + 1) fu mk' (by omega) (by omega) h3 ?_))
        · rw [xx_sl _ (hG a w), nI_clamp (by omega), h4, lN_add]
          refine nm_e (nm_r (nI_1 (e + w)) (ih (w + 1) fu _ (by omega) (by omega) (fun i hi => by rw [pk_uLn hi]; exact h3 i hi) ?_))
          rw [pk_uLs]
          refine congrArg lN ?_
          show _ = tg_sm _ w + tg_F n K cc e a G w
          have : tg_F n K cc e a G w = 16 ^ G a w := if_pos ⟨by omega, z⟩
          rw [this]
        · rw [h4]
          refine congrArg lN ?_
          show _ = tg_sm _ w + tg_F n K cc e a G w
          have : tg_F n K cc e a G w = 0 := if_neg (fun y => z y.2)
          rw [this]; rfl
theorem xx_mb2 {post : SX → Prop} {d cc : Nat} {K : Nat → Nat} (hn : n ≤ 7) (hd : d ≤ 8) (hcl : tg_CL d K cl) (hcc : cc < 14) (hc : ∀ i, ce i = nI (c i)) (h4 : ∀ i, c i < 4) (ha : ga < 2) (hb : gb < 2)
    (hJ : ∀ mk', tg_MB n (tg_g c ga) (tg_g c gb) K cc mk' → post (nI n, nI ga, nI gb, fp, fb, fh, ce, pX, pY, cl, fr, mk', cX, nY, im, pl, nP, wo, lr, ob)) :
    ∀ (m v fu : Nat) (mk : Nat → Int64), v + m = 14 → m < fu → (∀ a, a < n → a < v → mk (0 + a) = lN (tg_sm (tg_F n K cc 0 a (tg_g c ga)) n)) → (∀ a, a < n → 7 + a < v → mk (7 + a) = lN (tg_sm (tg_F n K cc 7 a (tg_g c gb)) n)) → wX_markBy_2 post (nI d) (nI cc) (nI n) (nI ga) (nI gb) fp fb fh fu (nI v) ce pX pY cl fr mk cX nY im pl nP wo lr ob := by
  intro m
  induction m with
  | zero =>
    intro v fu mk h1 h2 h3 h5
    obtain ⟨fu, rfl⟩ : ∃ q, fu = q + 1 := ⟨fu - 1, by omega⟩
    refine br_t (nI_le (a := 14) (by omega) (by omega)) (hJ mk ⟨fun a q => ?_, fun a q => ?_⟩)
    · have := h3 a q (by omega)
      rw [Nat.zero_add] at this
      rw [this]
      unfold tg_F
      refine congrArg lN (tg_sm_congr fun w _ => ?_)
      show (if w ≠ a ∧ K (0 + w) = cc then _ else _) = _
      rw [Nat.zero_add]
    · exact h5 a q (by omega)
  | succ m ih =>
    intro v fu mk h1 h2 h3 h5
    obtain ⟨fu, rfl⟩ : ∃ q, fu = q + 1 := ⟨fu - 1, by omega⟩
    refine br_f (nI_ge (b := 14) (by omega) (by decide)) ⟨vp_in_nI (by omega) (by decide), ?_⟩
    rw [nI_clamp (by omega)]
    refine nm_e (pk_le 7 v (fun h => ⟨n + 1, ?_⟩) (fun h => ⟨n + 1, ?_⟩))
    · by_cases z : v < 7 + n
      · obtain ⟨a, rfl⟩ : ∃ a, v = 7 + a := ⟨v - 7, by omega⟩
        refine xx_mb33 (e := 7) (a := a) (G := tg_g c gb) (mk := vp_updL mk (7 + a) 0) hn hd (Or.inr rfl) (by omega) hcl hcc (fun _ _ => h4 _) (fun p mk w hw hp => xx_shy hc hb (by omega) (by omega) hp) (fun mk' q1 q2 => ih (7 + a + 1) fu mk' (by omega) (by omega) (fun b hb1 hb2 => ?_) (fun b hb1 hb2 => ?_)) n 0 (n + 1) _ (by omega) (by omega) (fun _ _ => rfl) pk_uLs
        · rw [q1 _ (by omega), pk_uLn (by omega)]; exact h3 b hb1 (by omega)
        · by_cases y : b = a
          · subst y; exact q2
          · rw [q1 _ (by omega), pk_uLn (by omega)]; exact h5 b hb1 (by omega)
      · refine xx_mb0 (e := 7) (v := v) hn (by omega) (by omega) (by omega) (ih (v + 1) fu _ (by omega) (by omega) (fun b hb1 hb2 => ?_) (fun b hb1 hb2 => ?_)) n 0 (n + 1) (by omega) (by omega)
        · rw [pk_uLn (by omega)]; exact h3 b hb1 (by omega)
        · rw [pk_uLn (by omega)]; exact h5 b hb1 (by omega)
    · by_cases z : v < n
      · have xs : ∀ (p : Int32 → Prop) (mk : Nat → Int64) (w : Nat), w < n → p (nI (tg_g c ga v w)) → wpX_shade p (nI n, nI ga, nI gb, fp, fb, fh, ce, pX, pY, cl, fr, mk, cX, nY, im, pl, nP, wo, lr, ob) (nI (0 + v)) (nI (0 + w)) := fun p mk w hw hp => by
          rw [Nat.zero_add, Nat.zero_add]
          exact xx_shx hc ha (by omega) (by omega) hp
        have key := xx_mb33 (post := post) (J2 := wX_markBy_2 post (nI d) (nI cc) (nI n) (nI ga) (nI gb) fp fb fh fu) (e := 0) (a := v) (G := tg_g c ga) (mk := vp_updL mk v 0) hn hd (Or.inl rfl) z hcl hcc (fun _ _ => h4 _) xs (fun mk' q1 q2 => by
          rw [Nat.zero_add] at q1 q2 ⊢
          refine ih (v + 1) fu mk' (by omega) (by omega) (fun b hb1 hb2 => ?_) (fun b hb1 hb2 => ?_)
          · by_cases y : b = v
            · subst y; rw [Nat.zero_add]; exact q2
            · rw [Nat.zero_add, q1 _ y, pk_uLn y]; have := h3 b hb1 (by omega); rw [Nat.zero_add] at this; exact this
          · rw [q1 _ (by omega), pk_uLn (by omega)]; exact h5 b hb1 (by omega)) n 0 (n + 1) _ (by omega) (by omega) (fun _ _ => rfl) (by rw [Nat.zero_add]; exact pk_uLs)
        rw [Nat.zero_add] at key
        exact key
      · refine xx_mb0 (e := 0) (v := v) hn (by omega) (by omega) (by omega) (ih (v + 1) fu _ (by omega) (by omega) (fun b hb1 hb2 => ?_) (fun b hb1 hb2 => ?_)) n 0 (n + 1) (by omega) (by omega)
        · rw [pk_uLn (by omega)]; exact h3 b hb1 (by omega)
        · rw [pk_uLn (by omega)]; exact h5 b hb1 (by omega)
theorem xx_mb {post : SX → Prop} {d cc : Nat} {K : Nat → Nat} (hn : n ≤ 7) (hd : d ≤ 8) (hcl : tg_CL d K cl) (hcc : cc < 14) (hc : ∀ i, ce i = nI (c i)) (h4 : ∀ i, c i < 4) (ha : ga < 2) (hb : gb < 2)
    (hJ : ∀ mk', tg_MB n (tg_g c ga) (tg_g c gb) K cc mk' → post (nI n, nI ga, nI gb, fp, fb, fh, ce, pX, pY, cl, fr, mk', cX, nY, im, pl, nP, wo, lr, ob)) : wpX_markBy post (nI n, nI ga, nI gb, fp, fb, fh, ce, pX, pY, cl, fr, mk, cX, nY, im, pl, nP, wo, lr, ob) (nI d) (nI cc) := by
  unfold wpX_markBy
  exact ⟨15, xx_mb2 hn hd hcl hcc hc h4 ha hb hJ 14 0 15 mk (by omega) (by omega) (fun a _ z => absurd z (by omega)) (fun a _ z => absurd z (by omega))⟩
/-- what refine keeps -/
def tg_RI (n : Nat) (gx gy : Nat → Nat → Nat) (d : Nat) (K0 : Nat → Nat) (cl0 cl : Nat → Int32) : Prop := ∃ K, tg_CL d K cl ∧ tg_Sp K0 K ∧ (∀ f, tg_Ly n gx gy f → tg_Cm n K0 f → tg_Cm n K f) ∧ tg_Fr d cl0 cl
theorem tg_RI_s {gx gy : Nat → Nat → Nat} {d cc : Nat} {K0 K K' : Nat → Nat} {cl0 cl' : Nat → Int32} {mk' : Nat → Int64} (hn : n ≤ 7) (h2 : tg_Sp K0 K) (h3 : ∀ f, tg_Ly n gx gy f → tg_Cm n K0 f → tg_Cm n K f) (h4 : tg_Fr d cl0 cl) (hm : tg_MB n gx gy K cc mk') (r1 : tg_CL d K' cl') (r2 : tg_Fr d cl cl') (r3 : tg_Rg K mk' K') : tg_RI n gx gy d K0 cl0 cl' :=
  ⟨K', r1, tg_Sp_t h2 (tg_Rg_Sp r3), fun f hf hc => tg_Rg_Cm hn hf.1.1 (h3 f hf hc) (tg_MB_i hf (h3 f hf hc) hm) r3, fun i hi => (r2 i hi).trans (h4 i hi)⟩
theorem xx_rf19 {post : SX → Prop} {J4 : Int32 → Int32 → Int32 → Int32 → Int32 → Int32 → Int64 → Int32 → (Nat → Int32) → (Nat → Int32) → (Nat → Int32) → (Nat → Int32) → (Nat → Int32) → (Nat → Int64) → (Nat → Int32) → (Nat → Int32) → (Nat → Int32) → (Nat → Int32) → (Nat → Int32) → (Nat → Int64) → (Nat → Int64) → (Nat → Int32) → Prop} {x3 : Int32} {d : Nat} {K0 : Nat → Nat} {cl0 : Nat → Int32} (hn : n ≤ 7) (hd : d ≤ 8) (hc : ∀ i, ce i = nI (c i)) (h4 : ∀ i, c i < 4) (ha : ga < 2) (hb : gb < 2)
    (hJ : ∀ x2 cl fr mk, tg_RI n (tg_g c ga) (tg_g c gb) d K0 cl0 cl → J4 x2 (x3 + 1) (nI n) (nI ga) (nI gb) fp fb fh ce pX pY cl fr mk cX nY im pl nP wo lr ob) :
    ∀ (m v fu : Nat) (x2 : Int32) (cl fr : Nat → Int32) (mk : Nat → Int64), v + m = 14 → m < fu → tg_RI n (tg_g c ga) (tg_g c gb) d K0 cl0 cl → wX_refine_19 post J4 (nI d) x3 fu x2 (nI v) (nI n) (nI ga) (nI gb) fp fb fh ce pX pY cl fr mk cX nY im pl nP wo lr ob := by
  intro m
  induction m with
  | zero =>
    intro v fu x2 cl fr mk h1 h2 h3
    obtain ⟨fu, rfl⟩ : ∃ q, fu = q + 1 := ⟨fu - 1, by omega⟩
    exact br_t (nI_le (a := 14) (by omega) (by omega)) (nm_e (hJ x2 cl fr mk h3))
  | succ m ih =>
    intro v fu x2 cl fr mk h1 h2 h3
    obtain ⟨fu, rfl⟩ : ∃ q, fu = q + 1 := ⟨fu - 1, by omega⟩
    obtain ⟨K, k1, k2, k3, k4⟩ := h3
    have h3 : tg_RI n (tg_g c ga) (tg_g c gb) d K0 cl0 cl := ⟨K, k1, k2, k3, k4⟩
    refine br_f (nI_ge (b := 14) (by omega) (by decide)) (xx_us hn (by omega) (fun h => br_f (by decide) ⟨pk_in _ 128 (by omega) (xx_14 d v), ?_⟩) (fun h => br_t rfl (nm_r (nI_1 v) (ih (v + 1) fu x2 cl fr mk (by omega) (by omega) h3))))
    rw [pk_cl _ (xx_14 d v)]
    refine br_c (fun _ => ?_) (fun _ => nm_r (nI_1 v) (ih (v + 1) fu x2 cl fr mk (by omega) (by omega) h3))
    refine xx_mb hn hd k1 (by omega) hc h4 ha hb (fun mk' q => ?_)
    refine xx_rg hd k1 (fun r cl' fr' K' r0 r1 r2 r3 => ?_)
    have z := tg_RI_s hn k2 k3 k4 q r1 r2 r3
    refine br_c (fun _ => br_c (fun _ => nm_r (nI_1 v) (ih (v + 1) fu 0 cl' fr' mk' (by omega) (by omega) z)) (fun _ => nm_r (nI_1 v) (ih (v + 1) fu 1 cl' fr' mk' (by omega) (by omega) z))) (fun _ => nm_r (nI_1 v) (ih (v + 1) fu 1 cl' fr' mk' (by omega) (by omega) z))
theorem xx_rf4 {post : SX → Prop} {d : Nat} {K0 : Nat → Nat} {cl0 : Nat → Int32} (hn : n ≤ 7) (hd : d ≤ 8) (hc : ∀ i, ce i = nI (c i)) (h4 : ∀ i, c i < 4) (ha : ga < 2) (hb : gb < 2)
    (hJ : ∀ cl fr mk, tg_RI n (tg_g c ga) (tg_g c gb) d K0 cl0 cl → post (nI n, nI ga, nI gb, fp, fb, fh, ce, pX, pY, cl, fr, mk, cX, nY, im, pl, nP, wo, lr, ob)) :
    ∀ (m v fu : Nat) (x2 : Int32) (cl fr : Nat → Int32) (mk : Nat → Int64), v + m = 15 → m < fu → tg_RI n (tg_g c ga) (tg_g c gb) d K0 cl0 cl → wX_refine_4 post (nI d) fu x2 (nI v) (nI n) (nI ga) (nI gb) fp fb fh ce pX pY cl fr mk cX nY im pl nP wo lr ob := by
  intro m
  induction m with
  | zero =>
    intro v fu x2 cl fr mk h1 h2 h3
    obtain ⟨fu, rfl⟩ : ∃ q, fu = q + 1 := ⟨fu - 1, by omega⟩
    exact br_t (nI_le (a := 15) (by omega) (by omega)) (hJ cl fr mk h3)
  | succ m ih =>
    intro v fu x2 cl fr mk h1 h2 h3
    obtain ⟨fu, rfl⟩ : ∃ q, fu = q + 1 := ⟨fu - 1, by omega⟩
    refine br_f (nI_ge (b := 15) (by omega) (by decide)) (br_c (fun _ => hJ cl fr mk h3) (fun _ => ⟨15, ?_⟩))
    refine xx_rf19 hn hd hc h4 ha hb (fun x2 cl fr mk z => ?_) 14 0 15 0 cl fr mk (by omega) (by omega) h3
    rw [nI_1]
    exact ih (v + 1) fu x2 cl fr mk (by omega) (by omega) z
theorem xx_rf {post : SX → Prop} {d : Nat} {K : Nat → Nat} (hn : n ≤ 7) (hd : d ≤ 8) (hcl : tg_CL d K cl) (hc : ∀ i, ce i = nI (c i)) (h4 : ∀ i, c i < 4) (ha : ga < 2) (hb : gb < 2)
    (hJ : ∀ cl' fr mk K', tg_CL d K' cl' → tg_Sp K K' → (∀ f, tg_Ly n (tg_g c ga) (tg_g c gb) f → tg_Cm n K f → tg_Cm n K' f) → tg_Fr d cl cl' → post (nI n, nI ga, nI gb, fp, fb, fh, ce, pX, pY, cl', fr, mk, cX, nY, im, pl, nP, wo, lr, ob)) : wpX_refine post (nI n, nI ga, nI gb, fp, fb, fh, ce, pX, pY, cl, fr, mk, cX, nY, im, pl, nP, wo, lr, ob) (nI d) := by
  unfold wpX_refine
  exact ⟨16, xx_rf4 (cl0 := cl) (K0 := K) hn hd hc h4 ha hb (fun cl' fr mk ⟨K', z1, z2, z3, z4⟩ => hJ cl' fr mk K' z1 z2 z3 z4) 15 0 16 1 cl fr mk (by omega) (by omega) ⟨K, hcl, tg_Sp_r K, fun _ _ h => h, fun _ _ => rfl⟩⟩
end
end
section
/-! balance, shared, chooseX, tryNext, isLaying -/
theorem xx_14b (d v : Nat) : ((14 * nI d) + nI v) + 7 = nI (14 * d + (7 + v)) := by
  rw [xx_14, show (7 : Int32) = nI 7 from rfl, nI_add]
  exact congrArg nI (by omega)
theorem xx_14c (d v : Nat) : ((14 * nI d) + 14) + nI v = nI (14 * (d + 1) + v) := by
  rw [show (14 : Int32) = nI 14 from rfl, pk_mul, nI_add, nI_add]
  exact congrArg nI (by omega)
theorem xx_14d (d v : Nat) : ((14 * nI d) + 7) + nI v = nI (14 * d + (7 + v)) := by
  rw [show (14 : Int32) = nI 14 from rfl, show (7 : Int32) = nI 7 from rfl, pk_mul, nI_add, nI_add]
  exact congrArg nI (by omega)
theorem xx_a7 (v : Nat) : 7 + nI v = nI (7 + v) := by rw [show (7 : Int32) = nI 7 from rfl, nI_add]
theorem xx_i0 (a : Nat) : nI a + 0 = nI a := Int32.add_zero _
section
variable {n : Nat} {gX gY fp : Int32} {fb : Int64} {fh : Int32} {ce pX pY cl fr : Nat → Int32} {mk : Nat → Int64} {cX nY im pl nP : Nat → Int32} {wo lr : Nat → Int64} {ob : Nat → Int32} {c : Nat → Nat} {ga gb : Nat}
theorem xx_bl51 {post : Int32 → Prop} {J4 : Int32 → Int32 → Prop} {J19 : Int32 → Int32 → Int32 → Prop} {x2 z0 : Int32} {d cc v X Y Z : Nat} {K : Nat → Nat} (hn : n ≤ 7) (hd : d ≤ 8) (hv : v < n) (hcl : tg_CL d K cl) (hcc : cc < 14) (hz : nI X + z0 = nI Z)
    (hJ : J19 (nI Z) (nI (Y + tg_b (K (7 + v) = cc))) (nI (v + 1))) : wX_balance_51 post J4 J19 (nI d) x2 (nI cc) (nI Y) (nI v) z0 (nI X) (nI n) gX gY fp fb fh ce pX pY cl fr mk cX nY im pl nP wo lr ob := by
  unfold wX_balance_51
  obtain ⟨k1, k2⟩ := hcl (7 + v) (by omega)
  refine nm_r hz ⟨pk_in _ 128 (by omega) (xx_14b d v), ?_⟩
  rw [pk_cl _ (xx_14b d v), k1]
  refine pk_eq (K (7 + v)) cc (fun e => nm_r (nI_1 Y) (nm_r (nI_1 v) ?_)) (fun e => nm_r (xx_i0 Y) (nm_r (nI_1 v) ?_))
  · rw [tg_bt e] at hJ; exact hJ
  · rw [tg_bf e] at hJ; exact hJ
theorem xx_bl19 {post : Int32 → Prop} {J4 : Int32 → Int32 → Prop} {x2 : Int32} {d cc : Nat} {K : Nat → Nat} (hn : n ≤ 7) (hd : d ≤ 8) (hcl : tg_CL d K cl) (hcc : cc < 14)
    (h0 : tg_xc n K cc ≠ tg_yc n K cc → post 0) (h1 : tg_xc n K cc = tg_yc n K cc → tg_xc n K cc ≤ 1 → J4 x2 (nI (cc + 1))) (h2 : tg_xc n K cc = tg_yc n K cc → 1 < tg_xc n K cc → J4 2 (nI (cc + 1))) :
    ∀ (m v fu : Nat), v + m = n → m < fu → wX_balance_19 post J4 (nI d) x2 (nI cc) (nI n) gX gY fp fb fh ce pX pY cl fr mk cX nY im pl nP wo lr ob fu (nI (tg_cn (fun w => K w = cc) v)) (nI (tg_cn (fun w => K (7 + w) = cc) v)) (nI v) := by
  intro m
  induction m with
  | zero =>
    intro v fu h3 h4
    obtain ⟨fu, rfl⟩ : ∃ q, fu = q + 1 := ⟨fu - 1, by omega⟩
    obtain rfl : v = n := by omega
    have b1 := tg_cn_le (fun w => K w = cc) v
    have b2 := tg_cn_le (fun w => K (7 + w) = cc) v
    exact br_t (nI_le (Nat.le_refl _) (by omega)) (pk_eq (tg_cn (fun w => K w = cc) v) (tg_cn (fun w => K (7 + w) = cc) v) (fun e => pk_le (tg_cn (fun w => K w = cc) v) 1 (fun q => nm_r (nI_1 cc) (h1 e q)) (fun q => nm_r (nI_1 cc) (h2 e q))) (fun e => h0 e))
  | succ m ih =>
    intro v fu h3 h4
    obtain ⟨fu, rfl⟩ : ∃ q, fu = q + 1 := ⟨fu - 1, by omega⟩
    obtain ⟨k1, k2⟩ := hcl v (by omega)
    have IH := ih (v + 1) fu (by omega) (by omega)
    rw [tg_cn_s, tg_cn_s] at IH
    refine br_f (nI_ge (by omega) (by omega)) ⟨pk_in _ 128 (by omega) (xx_14 d v), ?_⟩
    rw [pk_cl _ (xx_14 d v), k1]
    refine pk_eq (K v) cc (fun e => ?_) (fun e => ?_)
    · rw [tg_bt e] at IH
      exact xx_bl51 hn hd (by omega) hcl hcc (nI_1 _) IH
    · rw [tg_bf e] at IH
      exact xx_bl51 hn hd (by omega) hcl hcc (xx_i0 _) IH
theorem xx_bl4 {post : Int32 → Prop} {d : Nat} {K : Nat → Nat} (hn : n ≤ 7) (hd : d ≤ 8) (hcl : tg_CL d K cl)
    (h0 : (∃ c, c < 14 ∧ tg_xc n K c ≠ tg_yc n K c) → post 0) (h1 : (∀ c, c < 14 → tg_xc n K c = tg_yc n K c) → (∀ c, c < 14 → tg_xc n K c ≤ 1) → post 1) (h2 : (∀ c, c < 14 → tg_xc n K c = tg_yc n K c) → (∃ c, c < 14 ∧ 1 < tg_xc n K c) → post 2) :
    ∀ (m v fu : Nat) (x2 : Int32), v + m = 14 → m < fu → (∀ c, c < v → tg_xc n K c = tg_yc n K c) → ((x2 = 1 ∧ ∀ c, c < v → tg_xc n K c ≤ 1) ∨ (x2 = 2 ∧ ∃ c, c < v ∧ 1 < tg_xc n K c)) → wX_balance_4 post (nI d) (nI n) gX gY fp fb fh ce pX pY cl fr mk cX nY im pl nP wo lr ob fu x2 (nI v) := by
  intro m
  induction m with
  | zero =>
    intro v fu x2 h3 h4 h5 h6
    obtain ⟨fu, rfl⟩ : ∃ q, fu = q + 1 := ⟨fu - 1, by omega⟩
    obtain rfl : v = 14 := by omega
    refine br_t (nI_le (a := 14) (by omega) (by omega)) ?_
    rcases h6 with ⟨e, h6⟩ | ⟨e, h6⟩
    · subst e; exact h1 h5 h6
    · subst e; exact h2 h5 h6
  | succ m ih =>
    intro v fu x2 h3 h4 h5 h6
    obtain ⟨fu, rfl⟩ : ∃ q, fu = q + 1 := ⟨fu - 1, by omega⟩
    have ext : tg_xc n K v = tg_yc n K v → ∀ c, c < v + 1 → tg_xc n K c = tg_yc n K c := fun e c hc => by
      by_cases y : c = v
      · subst y; exact e
      · exact h5 c (by omega)
    refine br_f (nI_ge (b := 14) (by omega) (by decide)) ⟨n + 1, ?_⟩
    refine xx_bl19 hn hd hcl (by omega) (fun e => h0 ⟨v, by omega, e⟩) (fun e q => ih (v + 1) fu x2 (by omega) (by omega) (ext e) ?_) (fun e q => ih (v + 1) fu 2 (by omega) (by omega) (ext e) (Or.inr ⟨rfl, v, by omega, q⟩)) n 0 (n + 1) (by omega) (by omega)
    rcases h6 with ⟨e', h6⟩ | ⟨e', c', c1, c2⟩
    · refine Or.inl ⟨e', fun c hc => ?_⟩
      by_cases y : c = v
      · subst y; exact q
      · exact h6 c (by omega)
    · exact Or.inr ⟨e', c', by omega, c2⟩
theorem xx_bl {post : Int32 → Prop} {d : Nat} {K : Nat → Nat} (hn : n ≤ 7) (hd : d ≤ 8) (hcl : tg_CL d K cl)
    (h0 : (∃ c, c < 14 ∧ tg_xc n K c ≠ tg_yc n K c) → post 0) (h1 : (∀ c, c < 14 → tg_xc n K c = tg_yc n K c) → (∀ c, c < 14 → tg_xc n K c ≤ 1) → post 1) (h2 : (∀ c, c < 14 → tg_xc n K c = tg_yc n K c) → (∃ c, c < 14 ∧ 1 < tg_xc n K c) → post 2) : wpX_balance post (nI n, gX, gY, fp, fb, fh, ce, pX, pY, cl, fr, mk, cX, nY, im, pl, nP, wo, lr, ob) (nI d) := by
  unfold wpX_balance
  exact ⟨15, xx_bl4 hn hd hcl h0 h1 h2 14 0 15 1 (by omega) (by omega) (fun c hc => absurd hc (by omega)) (Or.inl ⟨rfl, fun c hc => absurd hc (by omega)⟩)⟩
/-! shared, chooseX -/
def tg_Sh (n : Nat) (K : Nat → Nat) (v : Nat) : Prop := ∃ u, u < n ∧ u ≠ v ∧ K u = K v
theorem xx_sd2 {post : Int32 → Prop} {d v : Nat} {K : Nat → Nat} (hn : n ≤ 7) (hd : d ≤ 8) (hv : v < n) (hcl : tg_CL d K cl) (h1 : tg_Sh n K v → post 1) (h0 : ¬ tg_Sh n K v → post 0) :
    ∀ (m u fu : Nat), u + m = n → m < fu → (∀ w, w < u → w ≠ v → K w ≠ K v) → wX_shared_2 post (nI d) (nI v) (nI n) gX gY fp fb fh ce pX pY cl fr mk cX nY im pl nP wo lr ob fu (nI u) := by
  intro m
  induction m with
  | zero =>
    intro u fu h3 h4 h5
    obtain ⟨fu, rfl⟩ : ∃ q, fu = q + 1 := ⟨fu - 1, by omega⟩
    exact br_t (nI_le (by omega) (by omega)) (h0 (fun ⟨w, w1, w2, w3⟩ => h5 w (by omega) w2 w3))
  | succ m ih =>
    intro u fu h3 h4 h5
    obtain ⟨fu, rfl⟩ : ∃ q, fu = q + 1 := ⟨fu - 1, by omega⟩
    obtain ⟨k1, k2⟩ := hcl v (by omega)
    obtain ⟨k3, k4⟩ := hcl u (by omega)
    have nx : (u ≠ v → K u ≠ K v) → wX_shared_2 post (nI d) (nI v) (nI n) gX gY fp fb fh ce pX pY cl fr mk cX nY im pl nP wo lr ob fu (nI (u + 1)) := fun z => ih (u + 1) fu (by omega) (by omega) (fun w hw hne => by
      by_cases y : w = u
      · subst y; exact z hne
      · exact h5 w (by omega) hne)
    refine br_f (nI_ge (by omega) (by omega)) (pk_eq u v (fun e => nm_r (nI_1 u) (nx (fun z => absurd e z))) (fun e => ⟨pk_in _ 128 (by omega) (xx_14 d u), pk_in _ 128 (by omega) (xx_14 d v), ?_⟩))
    rw [pk_cl _ (xx_14 d u), pk_cl _ (xx_14 d v), k1, k3]
    exact pk_eq (K u) (K v) (fun q => h1 ⟨u, by omega, e, q⟩) (fun q => nm_r (nI_1 u) (nx (fun _ => q)))
theorem xx_sd {post : Int32 → Prop} {d v : Nat} {K : Nat → Nat} (hn : n ≤ 7) (hd : d ≤ 8) (hv : v < n) (hcl : tg_CL d K cl) (h1 : tg_Sh n K v → post 1) (h0 : ¬ tg_Sh n K v → post 0) : wpX_shared post (nI n, gX, gY, fp, fb, fh, ce, pX, pY, cl, fr, mk, cX, nY, im, pl, nP, wo, lr, ob) (nI d) (nI v) := by
  unfold wpX_shared
  exact ⟨n + 1, xx_sd2 hn hd hv hcl h1 h0 n 0 (n + 1) (by omega) (by omega) (fun w hw => absurd hw (by omega))⟩
theorem xx_ch17 {post : SX → Prop} {d : Nat} {K : Nat → Nat} (hn : n ≤ 7) (hd : d ≤ 8) (hcl : tg_CL d K cl) (hs : ∃ v, v < n ∧ tg_Sh n K v)
    (hJ : ∀ x, x < n → tg_Sh n K x → post (nI n, gX, gY, fp, fb, fh, ce, pX, pY, cl, fr, mk, upd cX d (nI x), nY, im, pl, nP, wo, lr, ob)) :
    ∀ (u fu p : Nat), u ≤ n → u < fu → ((∃ v, u ≤ v ∧ v < n ∧ tg_Sh n K v) → p < n ∧ tg_Sh n K p) → wX_chooseX_17 post (nI d) (nI n) gX gY fp fb fh ce pX pY cl fr mk cX nY im pl nP wo lr ob fu (nI p) (nI u + (-1)) := by
  intro u
  induction u with
  | zero =>
    intro fu p h1 h2 h3
    obtain ⟨fu, rfl⟩ : ∃ q, fu = q + 1 := ⟨fu - 1, by omega⟩
    obtain ⟨v, v1, v2⟩ := hs
    obtain ⟨z1, z2⟩ := h3 ⟨v, by omega, v1, v2⟩
    refine br_t xx_neg ⟨vp_in_nI (by omega) (by decide), ?_⟩
    rw [nI_clamp (by omega)]
    exact nm_e (hJ p z1 z2)
  | succ u ih =>
    intro fu p h1 h2 h3
    obtain ⟨fu, rfl⟩ : ∃ q, fu = q + 1 := ⟨fu - 1, by omega⟩
    rw [pk_m1]
    refine br_f (nI_pos (by omega)) (xx_sd hn hd (by omega) hcl (fun z => br_f (by decide) (nm_e (ih fu u (by omega) (by omega) (fun _ => ⟨by omega, z⟩)))) (fun z => br_t rfl (nm_e (ih fu p (by omega) (by omega) (fun ⟨v, v1, v2, v3⟩ => h3 ⟨v, ?_, v2, v3⟩)))))
    by_cases y : v = u
    · subst y; exact absurd v3 z
    · omega
theorem xx_ch {post : SX → Prop} {d : Nat} {K : Nat → Nat} (hn : n ≤ 7) (hd : d ≤ 8) (hcl : tg_CL d K cl) (hs : ∃ v, v < n ∧ tg_Sh n K v)
    (hJ : ∀ x, x < n → tg_Sh n K x → post (nI n, gX, gY, fp, fb, fh, ce, pX, pY, cl, fr, mk, upd cX d (nI x), upd nY d 7, im, pl, nP, wo, lr, ob)) : wpX_chooseX post (nI n, gX, gY, fp, fb, fh, ce, pX, pY, cl, fr, mk, cX, nY, im, pl, nP, wo, lr, ob) (nI d) := by
  unfold wpX_chooseX
  refine ⟨vp_in_nI (by omega) (by decide), ?_⟩
  rw [nI_clamp (by omega)]
  exact nm_e (nm_r (xx_s1 _) ⟨n + 1, xx_ch17 hn hd hcl hs hJ n (n + 1) 0 (Nat.le_refl _) (by omega) (fun ⟨v, v1, v2, _⟩ => absurd v1 (by omega))⟩)
/-! tryNext -/
theorem xx_tn62 {post : Int32 → SX → Prop} {d x y : Nat} {K : Nat → Nat} (hn : n ≤ 7) (hd : d ≤ 7) (hx : x < n) (hy : y < n) (hcl : tg_CL d K cl)
    (hJ : ∀ cl' fr' mk' K', tg_CL (d + 1) K' cl' → tg_Fr (d + 1) cl cl' → (∀ v, v < 14 → mk' v = if v = x ∨ v = 7 + y then 1 else 0) → tg_Rg K mk' K' → post 1 (nI n, gX, gY, fp, fb, fh, ce, pX, pY, cl', fr', mk', cX, nY, im, pl, nP, wo, lr, ob)) :
    ∀ (m v fu : Nat) (cl' : Nat → Int32) (mk : Nat → Int64), v + m = 14 → m < fu → (∀ w, w < v → cl' (14 * (d + 1) + w) = nI (K w)) → tg_Fr (d + 1) cl cl' → (∀ w, w < v → mk w = if w = x ∨ w = 7 + y then 1 else 0) → wX_tryNext_62 post (nI d) (nI x) (nI (7 + y)) (nI n) gX gY fp fb fh fu (nI v) ce pX pY cl' fr mk cX nY im pl nP wo lr ob := by
  intro m
  induction m with
  | zero =>
    intro v fu cl' mk h1 h2 h3 h4 h5
    obtain ⟨fu, rfl⟩ : ∃ q, fu = q + 1 := ⟨fu - 1, by omega⟩
    refine br_t (nI_le (a := 14) (by omega) (by omega)) ?_
    rw [nI_1]
    refine xx_rg (K := K) (by omega) (fun w hw => ⟨h3 w (by omega), (hcl w hw).2⟩) (fun r cl'' fr'' K' r0 r1 r2 r3 => ?_)
    exact hJ cl'' fr'' mk K' r1 (fun i hi => (r2 i hi).trans (h4 i hi)) (fun w hw => h5 w (by omega)) r3
  | succ m ih =>
    intro v fu cl' mk h1 h2 h3 h4 h5
    obtain ⟨fu, rfl⟩ : ∃ q, fu = q + 1 := ⟨fu - 1, by omega⟩
    have nx : ∀ b : Int64, b = (if v = x ∨ v = 7 + y then 1 else 0) → wX_tryNext_62 post (nI d) (nI x) (nI (7 + y)) (nI n) gX gY fp fb fh fu (nI (v + 1)) ce pX pY (upd cl' (14 * (d + 1) + v) (cl' (14 * d + v))) fr (vp_updL mk v b) cX nY im pl nP wo lr ob := fun b hb => by
      refine ih (v + 1) fu _ _ (by omega) (by omega) (fun w hw => ?_) (fun i hi => ?_) (fun w hw => ?_)
      · by_cases z : w = v
        · subst z; rw [pk_us, h4 _ (by omega)]; exact (hcl w (by omega)).1
        · rw [pk_un (by omega)]; exact h3 w (by omega)
      · rw [pk_un (by omega)]; exact h4 i hi
      · by_cases z : w = v
        · subst z; rw [pk_uLs]; exact hb
        · rw [pk_uLn z]; exact h5 w (by omega)
    refine br_f (nI_ge (b := 14) (by omega) (by decide)) ⟨pk_in _ 128 (by omega) (xx_14 d v), pk_in _ 128 (by omega) (xx_14c d v), ?_⟩
    rw [pk_cl _ (xx_14 d v), pk_cl _ (xx_14c d v), nI_clamp (by omega)]
    refine nm_e (pk_eq v x (fun e => ⟨vp_in_nI (by omega) (by decide), nm_e (nm_r (nI_1 v) (nx 1 (if_pos (Or.inl e)).symm))⟩) (fun e => pk_eq v (7 + y) (fun e2 => ⟨vp_in_nI (by omega) (by decide), nm_e (nm_r (nI_1 v) (nx 1 (if_pos (Or.inr e2)).symm))⟩) (fun e2 => ⟨vp_in_nI (by omega) (by decide), nm_e (nm_r (nI_1 v) (nx 0 (if_neg (by omega)).symm))⟩)))
theorem xx_tn14 {post : Int32 → SX → Prop} {d x : Nat} {K : Nat → Nat} (hn : n ≤ 7) (hd : d ≤ 7) (hx : x < n) (hcl : tg_CL d K cl) {j : Nat}
    (h0 : (∀ y, j ≤ y → y < n → K (7 + y) ≠ K x) → post 0 (nI n, gX, gY, fp, fb, fh, ce, pX, pY, cl, fr, mk, cX, nY, im, pl, nP, wo, lr, ob))
    (h1 : ∀ y cl' fr' mk' K', j ≤ y → y < n → K (7 + y) = K x → (∀ z, j ≤ z → z < y → K (7 + z) ≠ K x) → tg_CL (d + 1) K' cl' → tg_Fr (d + 1) cl cl' → (∀ v, v < 14 → mk' v = if v = x ∨ v = 7 + y then 1 else 0) → tg_Rg K mk' K' → post 1 (nI n, gX, gY, fp, fb, fh, ce, pX, pY, cl', fr', mk', cX, upd nY d (nI (7 + (y + 1))), im, pl, nP, wo, lr, ob)) :
    ∀ (m y fu : Nat), y + m = n → m < fu → j ≤ y → (∀ z, j ≤ z → z < y → K (7 + z) ≠ K x) → wX_tryNext_14 post (nI d) (nI x) (nI n) gX gY fp fb fh ce pX pY cl fr mk cX nY im pl nP wo lr ob fu (nI (7 + y)) := by
  intro m
  induction m with
  | zero =>
    intro y fu a1 a2 a3 a4
    obtain ⟨fu, rfl⟩ : ∃ q, fu = q + 1 := ⟨fu - 1, by omega⟩
    refine br_t ?_ (h0 (fun z z1 z2 => a4 z z1 (by omega)))
    rw [xx_a7]; exact nI_le (by omega) (by omega)
  | succ m ih =>
    intro y fu a1 a2 a3 a4
    obtain ⟨fu, rfl⟩ : ∃ q, fu = q + 1 := ⟨fu - 1, by omega⟩
    obtain ⟨k1, k2⟩ := hcl x (by omega)
    obtain ⟨k3, k4⟩ := hcl (7 + y) (by omega)
    refine br_f ?_ ⟨pk_in _ 128 (by omega) (xx_14 d (7 + y)), pk_in _ 128 (by omega) (xx_14 d x), ?_⟩
    · rw [xx_a7]; exact nI_ge (by omega) (by omega)
    · rw [pk_cl _ (xx_14 d (7 + y)), pk_cl _ (xx_14 d x), k1, k3, nI_1 (7 + y), nI_clamp (n := d) (by omega)]
      refine pk_eq (K (7 + y)) (K x) (fun e => ⟨vp_in_nI (by omega) (by decide), nm_e ⟨15, ?_⟩⟩) (fun e => nm_e (ih (y + 1) fu (by omega) (by omega) (by omega) (fun z z1 z2 => ?_)))
      · exact xx_tn62 hn hd hx (by omega) hcl (fun cl' fr' mk' K' b1 b2 b3 b4 => h1 y cl' fr' mk' K' a3 (by omega) e a4 b1 b2 b3 b4) 14 0 15 cl mk (by omega) (by omega) (fun w hw => absurd hw (by omega)) (fun i _ => rfl) (fun w hw => absurd hw (by omega))
      · by_cases q : z = y
        · subst q; exact e
        · exact a4 z z1 (by omega)
theorem xx_tn {post : Int32 → SX → Prop} {d x : Nat} {K : Nat → Nat} (hn : n ≤ 7) (hd : d ≤ 7) (hx : x < n) (hcl : tg_CL d K cl) {j : Nat} (hj : j ≤ n) (e1 : cX d = nI x) (e2 : nY d = nI (7 + j))
    (h0 : (∀ y, j ≤ y → y < n → K (7 + y) ≠ K x) → post 0 (nI n, gX, gY, fp, fb, fh, ce, pX, pY, cl, fr, mk, cX, nY, im, pl, nP, wo, lr, ob))
    (h1 : ∀ y cl' fr' mk' K', j ≤ y → y < n → K (7 + y) = K x → (∀ z, j ≤ z → z < y → K (7 + z) ≠ K x) → tg_CL (d + 1) K' cl' → tg_Fr (d + 1) cl cl' → (∀ v, v < 14 → mk' v = if v = x ∨ v = 7 + y then 1 else 0) → tg_Rg K mk' K' → post 1 (nI n, gX, gY, fp, fb, fh, ce, pX, pY, cl', fr', mk', cX, upd nY d (nI (7 + (y + 1))), im, pl, nP, wo, lr, ob)) : wpX_tryNext post (nI n, gX, gY, fp, fb, fh, ce, pX, pY, cl, fr, mk, cX, nY, im, pl, nP, wo, lr, ob) (nI d) := by
  unfold wpX_tryNext
  refine ⟨vp_in_nI (by omega) (by decide), ?_⟩
  rw [nI_clamp (by omega)]
  exact nm_r e1 ⟨vp_in_nI (by omega) (by decide), nm_r e2 ⟨n - j + 1, xx_tn14 hn hd hx hcl h0 h1 (n - j) j (n - j + 1) (by omega) (by omega) (Nat.le_refl _) (fun z z1 z2 => by omega)⟩⟩
/-! isLaying -/
theorem xx_il12 {post : Int32 → SX → Prop} {J2 : Int32 → (Nat → Int32) → (Nat → Int32) → (Nat → Int32) → (Nat → Int32) → (Nat → Int32) → (Nat → Int64) → (Nat → Int32) → (Nat → Int32) → (Nat → Int32) → (Nat → Int32) → (Nat → Int32) → (Nat → Int64) → (Nat → Int64) → (Nat → Int32) → Prop} {d v : Nat} {K f : Nat → Nat} (hn : n ≤ 7) (hd : d ≤ 8) (hv : v < n) (hcl : tg_CL d K cl) (hfn : f v < n) (hf : K (7 + f v) = K v) (hu : ∀ w, w < n → K (7 + w) = K v → w = f v)
    (hJ : ∀ im', (∀ i, i ≠ v → im' i = im i) → im' v = nI (7 + f v) → J2 (nI (v + 1)) ce pX pY cl fr mk cX nY im' pl nP wo lr ob) :
    ∀ (m w fu : Nat) (im' : Nat → Int32), w + m = n → m < fu → (∀ i, i ≠ v → im' i = im i) → (f v < w → im' v = nI (7 + f v)) → wX_isLaying_12 post J2 (nI d) (nI v) (nI n) gX gY fp fb fh fu (nI w) ce pX pY cl fr mk cX nY im' pl nP wo lr ob := by
  intro m
  induction m with
  | zero =>
    intro w fu im' h1 h2 h3 h4
    obtain ⟨fu, rfl⟩ : ∃ q, fu = q + 1 := ⟨fu - 1, by omega⟩
    exact br_t (nI_le (by omega) (by omega)) (nm_r (nI_1 v) (hJ im' h3 (h4 (by omega))))
  | succ m ih =>
    intro w fu im' h1 h2 h3 h4
    obtain ⟨fu, rfl⟩ : ∃ q, fu = q + 1 := ⟨fu - 1, by omega⟩
    obtain ⟨k1, k2⟩ := hcl v (by omega)
    obtain ⟨k3, k4⟩ := hcl (7 + w) (by omega)
    refine br_f (nI_ge (by omega) (by omega)) ⟨pk_in _ 128 (by omega) (xx_14d d w), pk_in _ 128 (by omega) (xx_14 d v), ?_⟩
    rw [pk_cl _ (xx_14d d w), pk_cl _ (xx_14 d v), k1, k3]
    refine pk_eq (K (7 + w)) (K v) (fun e => ⟨vp_in_nI (by omega) (by decide), ?_⟩) (fun e => nm_r (nI_1 w) (ih (w + 1) fu im' (by omega) (by omega) h3 (fun q => h4 ?_)))
    · rw [nI_clamp (by omega), xx_a7]
      refine nm_e (nm_r (nI_1 w) (ih (w + 1) fu _ (by omega) (by omega) (fun i hi => by rw [pk_un hi]; exact h3 i hi) (fun q => ?_)))
      rw [pk_us, hu w (by omega) e]
    · have : f v ≠ w := fun z => e (by rw [← z]; exact hf)
      omega
theorem xx_il82 {post : Int32 → SX → Prop} {J72 : Int32 → Prop} {v : Nat} {f : Nat → Nat} (hn : n ≤ 7) (hv : v < n) (hc : ∀ i, ce i = nI (c i)) (h4 : ∀ i, c i < 4) (ha : ga < 2) (hb : gb < 2) (hfn : ∀ v, v < n → f v < n) (him : ∀ v, v < n → im v = nI (7 + f v))
    (h0 : (∃ w, w < n ∧ tg_g c ga v w ≠ tg_g c gb (f v) (f w)) → post 0 (nI n, nI ga, nI gb, fp, fb, fh, ce, pX, pY, cl, fr, mk, cX, nY, im, pl, nP, wo, lr, ob)) (hJ : (∀ w, w < n → tg_g c ga v w = tg_g c gb (f v) (f w)) → J72 (nI (v + 1))) :
    ∀ (m w fu : Nat), w + m = n → m < fu → (∀ z, z < w → tg_g c ga v z = tg_g c gb (f v) (f z)) → wX_isLaying_82 post J72 (nI v) (nI n) (nI ga) (nI gb) fp fb fh ce pX pY cl fr mk cX nY im pl nP wo lr ob fu (nI w) := by
  intro m
  induction m with
  | zero =>
    intro w fu h1 h2 h3
    obtain ⟨fu, rfl⟩ : ∃ q, fu = q + 1 := ⟨fu - 1, by omega⟩
    exact br_t (nI_le (by omega) (by omega)) (nm_r (nI_1 v) (hJ (fun z hz => h3 z (by omega))))
  | succ m ih =>
    intro w fu h1 h2 h3
    obtain ⟨fu, rfl⟩ : ∃ q, fu = q + 1 := ⟨fu - 1, by omega⟩
    have f1 := hfn v hv
    have f2 := hfn w (by omega)
    have c1 : tg_g c ga v w < 4 := h4 _
    have c2 : tg_g c gb (f v) (f w) < 4 := h4 _
    refine br_f (nI_ge (by omega) (by omega)) (xx_shx hc ha (by omega) (by omega) ⟨vp_in_nI (by omega) (by decide), vp_in_nI (by omega) (by decide), ?_⟩)
    rw [nI_clamp (n := v) (by omega), nI_clamp (n := w) (by omega), him v hv, him w (by omega)]
    refine xx_shy hc hb (by omega) (by omega) (pk_eq (tg_g c ga v w) (tg_g c gb (f v) (f w)) (fun e => nm_r (nI_1 w) (ih (w + 1) fu (by omega) (by omega) (fun z hz => ?_))) (fun e => h0 ⟨w, by omega, e⟩))
    by_cases q : z = w
    · subst q; exact e
    · exact h3 z (by omega)
theorem xx_il72 {post : Int32 → SX → Prop} {f : Nat → Nat} (hn : n ≤ 7) (hc : ∀ i, ce i = nI (c i)) (h4 : ∀ i, c i < 4) (ha : ga < 2) (hb : gb < 2) (hfn : ∀ v, v < n → f v < n) (him : ∀ v, v < n → im v = nI (7 + f v))
    (h0 : (∃ v w, v < n ∧ w < n ∧ tg_g c ga v w ≠ tg_g c gb (f v) (f w)) → post 0 (nI n, nI ga, nI gb, fp, fb, fh, ce, pX, pY, cl, fr, mk, cX, nY, im, pl, nP, wo, lr, ob)) (h1 : (∀ v w, v < n → w < n → tg_g c ga v w = tg_g c gb (f v) (f w)) → post 1 (nI n, nI ga, nI gb, fp, fb, fh, ce, pX, pY, cl, fr, mk, cX, nY, im, pl, nP, wo, lr, ob)) :
    ∀ (m v fu : Nat), v + m = n → m < fu → (∀ z w, z < v → w < n → tg_g c ga z w = tg_g c gb (f z) (f w)) → wX_isLaying_72 post (nI n) (nI ga) (nI gb) fp fb fh ce pX pY cl fr mk cX nY im pl nP wo lr ob fu (nI v) := by
  intro m
  induction m with
  | zero =>
    intro v fu h2 h3 h5
    obtain ⟨fu, rfl⟩ : ∃ q, fu = q + 1 := ⟨fu - 1, by omega⟩
    exact br_t (nI_le (by omega) (by omega)) (h1 (fun z w hz hw => h5 z w (by omega) hw))
  | succ m ih =>
    intro v fu h2 h3 h5
    obtain ⟨fu, rfl⟩ : ∃ q, fu = q + 1 := ⟨fu - 1, by omega⟩
    refine br_f (nI_ge (by omega) (by omega)) ⟨n + 1, xx_il82 hn (by omega) hc h4 ha hb hfn him (fun ⟨w, w1, w2⟩ => h0 ⟨v, w, by omega, w1, w2⟩) (fun e => ih (v + 1) fu (by omega) (by omega) (fun z w hz hw => ?_)) n 0 (n + 1) (by omega) (by omega) (fun z hz => absurd hz (by omega))⟩
    by_cases q : z = v
    · subst q; exact e w hw
    · exact h5 z w (by omega) hw
theorem xx_il2 {post : Int32 → SX → Prop} {d : Nat} {K f : Nat → Nat} (hn : n ≤ 7) (hd : d ≤ 8) (hcl : tg_CL d K cl) (hfn : ∀ v, v < n → f v < n) (hf : tg_Cm n K f) (hu : ∀ v w, v < n → w < n → K (7 + w) = K v → w = f v)
    (hJ : ∀ im, (∀ v, v < n → im v = nI (7 + f v)) → ∃ fu, wX_isLaying_72 post (nI n) gX gY fp fb fh ce pX pY cl fr mk cX nY im pl nP wo lr ob fu 0) :
    ∀ (m v fu : Nat) (im : Nat → Int32), v + m = n → m < fu → (∀ z, z < v → im z = nI (7 + f z)) → wX_isLaying_2 post (nI d) (nI n) gX gY fp fb fh fu (nI v) ce pX pY cl fr mk cX nY im pl nP wo lr ob := by
  intro m
  induction m with
  | zero =>
    intro v fu im h2 h3 h5
    obtain ⟨fu, rfl⟩ : ∃ q, fu = q + 1 := ⟨fu - 1, by omega⟩
    exact br_t (nI_le (by omega) (by omega)) (hJ im (fun z hz => h5 z (by omega)))
  | succ m ih =>
    intro v fu im h2 h3 h5
    obtain ⟨fu, rfl⟩ : ∃ q, fu = q + 1 := ⟨fu - 1, by omega⟩
    refine br_f (nI_ge (by omega) (by omega)) ⟨n + 1, xx_il12 (K := K) (f := f) hn hd (by omega) hcl (hfn v (by omega)) (hf v (by omega)) (fun w hw e => hu v w (by omega) hw e) (fun im' q1 q2 => ih (v + 1) fu im' (by omega) (by omega) (fun z hz => ?_)) n 0 (n + 1) im (by omega) (by omega) (fun _ _ => rfl) (fun z => absurd z (by omega))⟩
    by_cases q : z = v
    · subst q; exact q2
    · rw [q1 z q]; exact h5 z (by omega)
theorem xx_il {post : Int32 → SX → Prop} {d : Nat} {K f : Nat → Nat} (hn : n ≤ 7) (hd : d ≤ 8) (hcl : tg_CL d K cl) (hc : ∀ i, ce i = nI (c i)) (h4 : ∀ i, c i < 4) (ha : ga < 2) (hb : gb < 2) (hfi : tg_IP n f) (hf : tg_Cm n K f) (hu : ∀ v w, v < n → w < n → K (7 + w) = K v → w = f v)
    (h0 : ¬ tg_Ly n (tg_g c ga) (tg_g c gb) f → ∀ im, post 0 (nI n, nI ga, nI gb, fp, fb, fh, ce, pX, pY, cl, fr, mk, cX, nY, im, pl, nP, wo, lr, ob)) (h1 : tg_Ly n (tg_g c ga) (tg_g c gb) f → ∀ im, post 1 (nI n, nI ga, nI gb, fp, fb, fh, ce, pX, pY, cl, fr, mk, cX, nY, im, pl, nP, wo, lr, ob)) : wpX_isLaying post (nI n, nI ga, nI gb, fp, fb, fh, ce, pX, pY, cl, fr, mk, cX, nY, im, pl, nP, wo, lr, ob) (nI d) := by
  unfold wpX_isLaying
  refine ⟨n + 1, xx_il2 hn hd hcl hfi.1 hf hu (fun im him => ⟨n + 1, ?_⟩) n 0 (n + 1) im (by omega) (by omega) (fun z hz => absurd hz (by omega))⟩
  exact xx_il72 hn hc h4 ha hb hfi.1 him (fun ⟨v, w, v1, w1, e⟩ => h0 (fun z => e (z.2 v w v1 w1)) im) (fun e => h1 ⟨hfi, e⟩ im) n 0 (n + 1) (by omega) (by omega) (fun z w hz => absurd hz (by omega))
end
end
section
/-! exists: the search for one laying -/
def tg_EN (post : Int32 → SX → Prop) (n ga gb np : Nat) (c px py : Nat → Nat) (fb : Int64) (fh : Int32) (ce pX pY pl nP : Nat → Int32) (wo lr : Nat → Int64) (ob : Nat → Int32) (k : Nat) : Prop :=
  ∀ (d s fu : Nat) (K : Nat → Nat) (cl fr : Nat → Int32) (mk : Nat → Int64) (cX nY im : Nat → Int32), tg_S n K ≤ k → d + k ≤ 7 → s + tg_T k ≤ 60000 → fu + s = 60001 → tg_CL d K cl → tg_PS n np px py K →
    ((∃ f, tg_GP n (tg_g c ga) (tg_g c gb) np px py f ∧ tg_Cm n K f) → ∀ (cl fr : Nat → Int32) (mk : Nat → Int64) (cX nY im : Nat → Int32), post 1 (nI n, nI ga, nI gb, nI np, fb, fh, ce, pX, pY, cl, fr, mk, cX, nY, im, pl, nP, wo, lr, ob)) →
    ((¬ ∃ f, tg_GP n (tg_g c ga) (tg_g c gb) np px py f ∧ tg_Cm n K f) → ∀ (s' fu' : Nat) (cl' fr' : Nat → Int32) (mk' : Nat → Int64) (cX' nY' im' : Nat → Int32), fu' + s' = 60001 → s' ≤ s + tg_T k → tg_Fr d cl cl' → (∀ i, i < d → cX' i = cX i ∧ nY' i = nY i) → wX_exists_10 post fu' (nI d + (-1)) 0 (nI s') (nI n) (nI ga) (nI gb) (nI np) fb fh ce pX pY cl' fr' mk' cX' nY' im' pl nP wo lr ob) →
    wX_exists_10 post fu (nI d) 1 (nI s) (nI n) (nI ga) (nI gb) (nI np) fb fh ce pX pY cl fr mk cX nY im pl nP wo lr ob
theorem tg_T_pos : ∀ k, 1 ≤ tg_T k
  | 0 => Nat.le_refl _
  | k + 1 => by show 1 ≤ 2 + (k + 1) * (1 + tg_T k); omega
section
variable {n : Nat} {gX gY fp : Int32} {fb : Int64} {fh : Int32} {ce pX pY cl fr : Nat → Int32} {mk : Nat → Int64} {cX nY im pl nP : Nat → Int32} {wo lr : Nat → Int64} {ob : Nat → Int32} {c : Nat → Nat} {ga gb : Nat}
theorem xx_try {post : Int32 → SX → Prop} {np k d x : Nat} {px py K : Nat → Nat} {cl0 cX0 nY0 : Nat → Int32} (hn : n ≤ 7) (hk : d + (k + 1) ≤ 7) (hx : x < n) (hsx : tg_Sh n K x) (hS : tg_S n K ≤ k + 1) (hps : tg_PS n np px py K)
    (IH : tg_EN post n ga gb np c px py fb fh ce pX pY pl nP wo lr ob k)
    (hit : (∃ f, tg_GP n (tg_g c ga) (tg_g c gb) np px py f ∧ tg_Cm n K f) → ∀ (cl fr : Nat → Int32) (mk : Nat → Int64) (cX nY im : Nat → Int32), post 1 (nI n, nI ga, nI gb, nI np, fb, fh, ce, pX, pY, cl, fr, mk, cX, nY, im, pl, nP, wo, lr, ob)) {B : Nat} (hB : B ≤ 60000)
    (miss : (¬ ∃ f, tg_GP n (tg_g c ga) (tg_g c gb) np px py f ∧ tg_Cm n K f) → ∀ (s' fu' : Nat) (cl' fr' : Nat → Int32) (mk' : Nat → Int64) (cX' nY' im' : Nat → Int32), fu' + s' = 60001 → s' ≤ B → tg_Fr d cl0 cl' → (∀ i, i < d → cX' i = cX0 i ∧ nY' i = nY0 i) → wX_exists_10 post fu' (nI d + (-1)) 0 (nI s') (nI n) (nI ga) (nI gb) (nI np) fb fh ce pX pY cl' fr' mk' cX' nY' im' pl nP wo lr ob) :
    ∀ (m j s fu : Nat) (cl fr : Nat → Int32) (mk : Nat → Int64) (cX nY im : Nat → Int32), tg_C n K x j ≤ m → j ≤ n → s + 1 + m * (1 + tg_T k) ≤ B → fu + s = 60001 → tg_CL d K cl → cX d = nI x → nY d = nI (7 + j) → tg_Fr d cl0 cl → (∀ i, i < d → cX i = cX0 i ∧ nY i = nY0 i) →
      (∀ f, tg_GP n (tg_g c ga) (tg_g c gb) np px py f → tg_Cm n K f → j ≤ f x) → wX_exists_10 post fu (nI d) 0 (nI s) (nI n) (nI ga) (nI gb) (nI np) fb fh ce pX pY cl fr mk cX nY im pl nP wo lr ob := by
  intro m
  induction m with
  | zero =>
    intro j s fu cl fr mk cX nY im h1 h2 h3 h4 h5 h6 h7 h8 h9 h10
    obtain ⟨fu, rfl⟩ : ∃ q, fu = q + 1 := ⟨fu - 1, by omega⟩
    refine br_f (nI_ge (b := 60000) (by omega) (by decide)) (br_f (nI_pos (by omega)) (br_t rfl (xx_tn hn (by omega) hx h5 h2 h6 h7 (fun z => br_t rfl (nm_e (nm_r (nI_1 s) (miss ?_ (s + 1) fu cl fr mk cX nY im (by omega) (by omega) h8 h9)))) (fun y cl' fr' mk' K' y1 y2 y3 => ?_))))
    · intro ⟨f, f1, f2⟩
      exact z (f x) (h10 f f1 f2) (f1.1.1.1 x hx) (f2 x hx)
    · have := tg_C_s (n := n) y1 y2 y3
      omega
  | succ m ih =>
    intro j s fu cl fr mk cX nY im h1 h2 h3 h4 h5 h6 h7 h8 h9 h10
    obtain ⟨fu, rfl⟩ : ∃ q, fu = q + 1 := ⟨fu - 1, by omega⟩
    rw [Nat.add_mul, Nat.one_mul] at h3
    refine br_f (nI_ge (b := 60000) (by omega) (by decide)) (br_f (nI_pos (by omega)) (br_t rfl (xx_tn hn (by omega) hx h5 h2 h6 h7 (fun z => br_t rfl (nm_e (nm_r (nI_1 s) (miss ?_ (s + 1) fu cl fr mk cX nY im (by omega) (by omega) h8 h9)))) (fun y cl' fr' mk' K' y1 y2 y3 y4 y5 y6 y7 y8 => ?_))))
    · intro ⟨f, f1, f2⟩
      exact z (f x) (h10 f f1 f2) (f1.1.1.1 x hx) (f2 x hx)
    · have hC := tg_C_s (n := n) y1 y2 y3
      have hS' := tg_S_lt hn hx hsx y7 y8
      refine br_f (by decide) (nm_r (nI_1 d) (nm_r (nI_1 s) ?_))
      refine IH (d + 1) (s + 1) fu K' cl' fr' mk' cX _ im (by omega) (by omega) (by omega) (by omega) y5 (tg_PS_m hn (tg_Rg_Sp y8) hps) (fun ⟨f, f1, f2⟩ => hit ⟨f, f1, fun v hv => tg_Rg_Sp y8 _ _ (by have := f1.1.1.1 v hv; omega) (by omega) (f2 v hv)⟩) (fun z s' fu' cl2 fr2 mk2 cX2 nY2 im2 q1 q2 q3 q4 => ?_)
      rw [pk_m1]
      refine ih (y + 1) s' fu' cl2 fr2 mk2 cX2 nY2 im2 (by omega) (by omega) (by omega) q1 (fun w hw => ?_) ?_ ?_ (fun i hi => ?_) (fun i hi => ?_) (fun f f1 f2 => ?_)
      · rw [q3 _ (by omega), y6 _ (by omega)]; exact h5 w hw
      · rw [(q4 d (by omega)).1]; exact h6
      · rw [(q4 d (by omega)).2]; exact pk_us
      · rw [q3 _ (by omega), y6 _ (by omega)]; exact h8 i hi
      · rw [(q4 i (by omega)).1, (q4 i (by omega)).2, pk_un (by omega)]; exact h9 i hi
      · have a := h10 f f1 f2
        rcases Nat.lt_trichotomy (f x) y with w | w | w
        · exact absurd (f2 x hx) (y4 (f x) a w)
        · exact absurd ⟨f, f1, tg_Rg_in hn hx f1.1.1 f2 w y7 y8⟩ z
        · omega
theorem xx_en {post : Int32 → SX → Prop} {np : Nat} {px py : Nat → Nat} (hn : n ≤ 7) (hpn : ∀ k, k < np → px k < n) (hc : ∀ i, ce i = nI (c i)) (h4 : ∀ i, c i < 4) (ha : ga < 2) (hb : gb < 2) : ∀ k, tg_EN post n ga gb np c px py fb fh ce pX pY pl nP wo lr ob k := by
  intro k
  induction k with
  | zero =>
    intro d s fu K cl fr mk cX nY im h1 h2 h3 h5 h6 h7 hit miss
    obtain ⟨fu, rfl⟩ : ∃ q, fu = q + 1 := ⟨fu - 1, by omega⟩
    have hT := tg_T_pos 0
    refine br_f (nI_ge (b := 60000) (by omega) (by decide)) (br_f (nI_pos (by omega)) (br_f (by decide) (xx_rf hn (by omega) h6 hc h4 ha hb (fun cl1 fr1 mk1 K1 k1 k2 k3 k5 => ?_))))
    have hS := tg_S_mono hn k2
    refine xx_bl hn (by omega) k1 (fun ⟨cc, c1, c2⟩ => ?_) (fun b1 b2 => ?_) (fun b1 b2 => ?_)
    · exact br_f (by decide) (br_f (by decide) (nm_e (nm_r (nI_1 s) (miss (fun ⟨f, f1, f2⟩ => c2 (tg_bal f1.1.1 (k3 f f1.1 f2) cc)) (s + 1) fu cl1 fr1 mk1 cX nY im (by omega) (by omega) k5 (fun i _ => ⟨rfl, rfl⟩)))))
    · obtain ⟨f, f1, f2, f3⟩ := tg_leaf hn (fun v hv => (k1 v hv).2) b1 b2
      refine br_t rfl (xx_il hn (by omega) k1 hc h4 ha hb f1 f2 f3 (fun z im1 => ?_) (fun z im1 => ?_))
      · exact br_t rfl (br_f (by decide) (nm_e (nm_r (nI_1 s) (miss (fun ⟨q, q1, q2⟩ => z (tg_Ly_e (fun i hi => (f3 i (q i) hi (q1.1.1.1 i hi) (k3 q q1.1 q2 i hi)).symm) q1.1)) (s + 1) fu cl1 fr1 mk1 cX nY im1 (by omega) (by omega) k5 (fun i _ => ⟨rfl, rfl⟩)))))
      · exact br_f (by decide) (hit ⟨f, ⟨z, tg_leafP f1 f2 (tg_PS_m hn k2 h7) hpn⟩, fun v hv => k2 _ _ (by have := f1.1 v hv; omega) (by omega) (f2 v hv)⟩ cl1 fr1 mk1 cX nY im1)
    · exfalso
      obtain ⟨cc, c1, c2⟩ := b2
      obtain ⟨v, v1, v2⟩ := tg_cn_ex (P := fun v => K1 v = cc) (n := n) (by unfold tg_xc at c2; omega)
      obtain ⟨u, u1, u2, u3⟩ := tg_cn_2ex (P := fun v => K1 v = cc) (n := n) (by unfold tg_xc at c2; omega) v1
      have : 0 < tg_S n K1 := tg_cn_pos v1 ⟨u, u1, u2, by rw [u3, v2]⟩
      omega
  | succ k IH =>
    intro d s fu K cl fr mk cX nY im h1 h2 h3 h5 h6 h7 hit miss
    obtain ⟨fu, rfl⟩ : ∃ q, fu = q + 1 := ⟨fu - 1, by omega⟩
    have hT := tg_T_pos (k + 1)
    have hT2 : tg_T (k + 1) = 2 + (k + 1) * (1 + tg_T k) := rfl
    refine br_f (nI_ge (b := 60000) (by omega) (by decide)) (br_f (nI_pos (by omega)) (br_f (by decide) (xx_rf hn (by omega) h6 hc h4 ha hb (fun cl1 fr1 mk1 K1 k1 k2 k3 k5 => ?_))))
    have hS := tg_S_mono hn k2
    have hit1 : (∃ f, tg_GP n (tg_g c ga) (tg_g c gb) np px py f ∧ tg_Cm n K1 f) → ∀ (cl fr : Nat → Int32) (mk : Nat → Int64) (cX nY im : Nat → Int32), post 1 (nI n, nI ga, nI gb, nI np, fb, fh, ce, pX, pY, cl, fr, mk, cX, nY, im, pl, nP, wo, lr, ob) := fun ⟨f, f1, f2⟩ => hit ⟨f, f1, fun v hv => k2 _ _ (by have := f1.1.1.1 v hv; omega) (by omega) (f2 v hv)⟩
    refine xx_bl hn (by omega) k1 (fun ⟨cc, c1, c2⟩ => ?_) (fun b1 b2 => ?_) (fun b1 b2 => ?_)
    · exact br_f (by decide) (br_f (by decide) (nm_e (nm_r (nI_1 s) (miss (fun ⟨f, f1, f2⟩ => c2 (tg_bal f1.1.1 (k3 f f1.1 f2) cc)) (s + 1) fu cl1 fr1 mk1 cX nY im (by omega) (by omega) k5 (fun i _ => ⟨rfl, rfl⟩)))))
    · obtain ⟨f, f1, f2, f3⟩ := tg_leaf hn (fun v hv => (k1 v hv).2) b1 b2
      refine br_t rfl (xx_il hn (by omega) k1 hc h4 ha hb f1 f2 f3 (fun z im1 => ?_) (fun z im1 => ?_))
      · exact br_t rfl (br_f (by decide) (nm_e (nm_r (nI_1 s) (miss (fun ⟨q, q1, q2⟩ => z (tg_Ly_e (fun i hi => (f3 i (q i) hi (q1.1.1.1 i hi) (k3 q q1.1 q2 i hi)).symm) q1.1)) (s + 1) fu cl1 fr1 mk1 cX nY im1 (by omega) (by omega) k5 (fun i _ => ⟨rfl, rfl⟩)))))
      · exact br_f (by decide) (hit1 ⟨f, ⟨z, tg_leafP f1 f2 (tg_PS_m hn k2 h7) hpn⟩, f2⟩ cl1 fr1 mk1 cX nY im1)
    · have hs : ∃ v, v < n ∧ tg_Sh n K1 v := by
        obtain ⟨cc, c1, c2⟩ := b2
        obtain ⟨v, v1, v2⟩ := tg_cn_ex (P := fun v => K1 v = cc) (n := n) (by unfold tg_xc at c2; omega)
        obtain ⟨u, u1, u2, u3⟩ := tg_cn_2ex (P := fun v => K1 v = cc) (n := n) (by unfold tg_xc at c2; omega) v1
        exact ⟨v, v1, u, u1, u2, by rw [u3, v2]⟩
      refine br_f (by decide) (br_t rfl (xx_ch hn (by omega) k1 hs (fun x hx hsx => nm_r (nI_1 s) ?_)))
      have hC := tg_C_0 (k1 x (by omega)).2 b1 hx hsx
      refine xx_try (K := K1) (cl0 := cl1) (cX0 := cX) (nY0 := nY) (B := s + tg_T (k + 1)) hn (by omega) hx hsx (by omega) (tg_PS_m hn k2 h7) IH hit1 h3 (fun z s' fu' cl' fr' mk' cX' nY' im' q1 q2 q3 q4 => miss (fun ⟨f, f1, f2⟩ => z ⟨f, f1, k3 f f1.1 f2⟩) s' fu' cl' fr' mk' cX' nY' im' q1 q2 (fun i hi => (q3 i hi).trans (k5 i hi)) q4) (k + 1) 0 (s + 1) fu cl1 fr1 mk1 _ _ im (by omega) (by omega) (by omega) (by omega) k1 pk_us pk_us (fun i _ => rfl) (fun i hi => ⟨pk_un (by omega), pk_un (by omega)⟩) (fun f _ _ => Nat.zero_le _)
theorem xx_ex {post : Int32 → SX → Prop} {np : Nat} {px py : Nat → Nat} (hn : n ≤ 7) (hp : np ≤ 7) (hpn : tg_PN n np pX pY px py) (hc : ∀ i, ce i = nI (c i)) (h4 : ∀ i, c i < 4) (ha : ga < 2) (hb : gb < 2)
    (h1 : (∃ f, tg_GP n (tg_g c ga) (tg_g c gb) np px py f) → ∀ (cl fr : Nat → Int32) (mk : Nat → Int64) (cX nY im : Nat → Int32), post 1 (nI n, nI ga, nI gb, nI np, fb, fh, ce, pX, pY, cl, fr, mk, cX, nY, im, pl, nP, wo, lr, ob))
    (h0 : (¬ ∃ f, tg_GP n (tg_g c ga) (tg_g c gb) np px py f) → ∀ (cl fr : Nat → Int32) (mk : Nat → Int64) (cX nY im : Nat → Int32), post 0 (nI n, nI ga, nI gb, nI np, fb, fh, ce, pX, pY, cl, fr, mk, cX, nY, im, pl, nP, wo, lr, ob)) : wpX_exists post (nI n, nI ga, nI gb, nI np, fb, fh, ce, pX, pY, cl, fr, mk, cX, nY, im, pl, nP, wo, lr, ob) := by
  unfold wpX_exists
  refine xx_st hn hp hpn hc h4 ha hb (fun cl1 fr1 mk1 K k1 k2 k3 => ⟨60001, ?_⟩)
  have hT := tg_T7 7 (by omega)
  have hS := tg_cn_le (fun v => ∃ u, u < n ∧ u ≠ v ∧ K u = K v) n
  refine xx_en hn (fun k hk => (hpn.1 k hk).1.2) hc h4 ha hb 7 0 0 60001 K cl1 fr1 mk1 cX nY im (by unfold tg_S; omega) (by omega) (by omega) (by omega) k1 k2 (fun ⟨f, f1, _⟩ => h1 ⟨f, f1⟩) (fun z s' fu' cl' fr' mk' cX' nY' im' q1 q2 q3 q4 => ?_)
  obtain ⟨fu, rfl⟩ : ∃ q, fu' = q + 1 := ⟨fu' - 1, by omega⟩
  have z' : ¬ ∃ f, tg_GP n (tg_g c ga) (tg_g c gb) np px py f := fun ⟨f, f1⟩ => z ⟨f, f1, k3 f f1⟩
  exact br_c (fun _ => h0 z' cl' fr' mk' cX' nY' im') (fun _ => br_t xx_neg (h0 z' cl' fr' mk' cX' nY' im'))
end
end
section
/-! pins, leastPartner, countSymmetries -/
def tg_up (f : Nat → Nat) (k v : Nat) : Nat → Nat := fun j => if j = k then v else f j
theorem tg_up_s {f : Nat → Nat} {k v : Nat} : tg_up f k v k = v := if_pos rfl
theorem tg_up_n {f : Nat → Nat} {k v j : Nat} (h : j ≠ k) : tg_up f k v j = f j := if_neg h
theorem tg_PN_s {n np a b : Nat} {pX pY : Nat → Int32} {px py : Nat → Nat} (h : tg_PN n np pX pY px py) (ha : a < n) (hb : b < n) (h1 : ∀ j, j < np → px j ≠ a) (h2 : ∀ j, j < np → py j ≠ b) : tg_PN n (np + 1) (upd pX np (nI a)) (upd pY np (nI b)) (tg_up px np a) (tg_up py np b) := by
  refine ⟨fun k hk => ?_, fun j k hj hk => ?_, fun j k hj hk => ?_⟩
  · by_cases y : k = np
    · subst y; rw [pk_us, pk_us, tg_up_s, tg_up_s]; exact ⟨⟨rfl, ha⟩, rfl, hb⟩
    · rw [pk_un y, pk_un y, tg_up_n y, tg_up_n y]; exact h.1 k (by omega)
  · rw [tg_up_n (by omega)]
    by_cases y : k = np
    · subst y; rw [tg_up_s]; exact h1 j hj
    · rw [tg_up_n y]; exact h.2.1 j k hj (by omega)
  · rw [tg_up_n (by omega)]
    by_cases y : k = np
    · subst y; rw [tg_up_s]; exact h2 j hj
    · rw [tg_up_n y]; exact h.2.2 j k hj (by omega)
theorem tg_PN_m {n np a b : Nat} {pX pY : Nat → Int32} {px py : Nat → Nat} (h : tg_PN n np pX pY px py) (x y : Int32) : tg_PN n np (upd pX np x) (upd pY np y) px py :=
  ⟨fun k hk => by rw [pk_un (by omega), pk_un (by omega)]; exact h.1 k hk, h.2⟩
theorem tg_GP_s {n np a b : Nat} {gx gy : Nat → Nat → Nat} {px py f : Nat → Nat} : tg_GP n gx gy (np + 1) (tg_up px np a) (tg_up py np b) f ↔ tg_GP n gx gy np px py f ∧ f a = b := by
  constructor
  · intro h
    refine ⟨⟨h.1, fun k hk => ?_⟩, ?_⟩
    · have := h.2 k (by omega)
      rw [tg_up_n (by omega), tg_up_n (by omega)] at this
      exact this
    · have := h.2 np (by omega)
      rw [tg_up_s, tg_up_s] at this
      exact this
  · intro h
    refine ⟨h.1.1, fun k hk => ?_⟩
    by_cases y : k = np
    · subst y; rw [tg_up_s, tg_up_s]; exact h.2
    · rw [tg_up_n y, tg_up_n y]; exact h.1.2 k (by omega)
section
variable {n : Nat} {gX gY fp : Int32} {fb : Int64} {fh : Int32} {ce pX pY cl fr : Nat → Int32} {mk : Nat → Int64} {cX nY im pl nP : Nat → Int32} {wo lr : Nat → Int64} {ob : Nat → Int32} {c : Nat → Nat} {ga gb : Nat}
theorem xx_pin {post : SX → Prop} {np : Nat} {x y : Int32} (hp : np < 7) (h : post (nI n, gX, gY, nI (np + 1), fb, fh, ce, upd pX np x, upd pY np y, cl, fr, mk, cX, nY, im, pl, nP, wo, lr, ob)) : wpX_pin post (nI n, gX, gY, nI np, fb, fh, ce, pX, pY, cl, fr, mk, cX, nY, im, pl, nP, wo, lr, ob) x y := by
  unfold wpX_pin
  refine ⟨vp_in_nI hp (by decide), ?_⟩
  rw [nI_clamp (by omega)]
  exact nm_e ⟨vp_in_nI hp (by decide), nm_e (nm_r (nI_1 np) h)⟩
theorem xx_pt2 {post : Int32 → Prop} {np b : Nat} {px py : Nat → Nat} (hn : n ≤ 7) (hp : np ≤ 7) (hb : b < n) (hpn : tg_PN n np pX pY px py) (h1 : (∃ k, k < np ∧ py k = b) → post 1) (h0 : (∀ k, k < np → py k ≠ b) → post 0) :
    ∀ (m k fu : Nat), k + m = np → m < fu → (∀ j, j < k → py j ≠ b) → wX_pinnedTo_2 post (nI b) (nI n) gX gY (nI np) fb fh ce pX pY cl fr mk cX nY im pl nP wo lr ob fu (nI k) := by
  intro m
  induction m with
  | zero =>
    intro k fu h2 h3 h4
    obtain ⟨fu, rfl⟩ : ∃ q, fu = q + 1 := ⟨fu - 1, by omega⟩
    exact br_t (nI_le (by omega) (by omega)) (h0 (fun j hj => h4 j (by omega)))
  | succ m ih =>
    intro k fu h2 h3 h4
    obtain ⟨fu, rfl⟩ : ∃ q, fu = q + 1 := ⟨fu - 1, by omega⟩
    obtain ⟨-, e, e2⟩ := hpn.1 k (by omega)
    refine br_f (nI_ge (by omega) (by omega)) ⟨vp_in_nI (by omega) (by decide), ?_⟩
    rw [nI_clamp (by omega), e]
    refine pk_eq (py k) b (fun q => h1 ⟨k, by omega, q⟩) (fun q => nm_r (nI_1 k) (ih (k + 1) fu (by omega) (by omega) (fun j hj => ?_)))
    by_cases y : j = k
    · subst y; exact q
    · exact h4 j (by omega)
theorem xx_pt {post : Int32 → Prop} {np b : Nat} {px py : Nat → Nat} (hn : n ≤ 7) (hp : np ≤ 7) (hb : b < n) (hpn : tg_PN n np pX pY px py) (h1 : (∃ k, k < np ∧ py k = b) → post 1) (h0 : (∀ k, k < np → py k ≠ b) → post 0) : wpX_pinnedTo post (nI n, gX, gY, nI np, fb, fh, ce, pX, pY, cl, fr, mk, cX, nY, im, pl, nP, wo, lr, ob) (nI b) := by
  unfold wpX_pinnedTo
  exact ⟨np + 1, xx_pt2 hn hp hb hpn h1 h0 np 0 (np + 1) (by omega) (by omega) (fun j hj => absurd hj (by omega))⟩
theorem xx_lp2 {post : Int32 → SX → Prop} {np a : Nat} {px py : Nat → Nat} (hn : n ≤ 7) (hp : np < 7) (han : a < n) (hax : ∀ j, j < np → px j ≠ a) (hc : ∀ i, ce i = nI (c i)) (h4 : ∀ i, c i < 4) (ha : ga < 2) (hb : gb < 2)
    (hN : (¬ ∃ f, tg_GP n (tg_g c ga) (tg_g c gb) np px py f) → ∀ (pX pY cl fr : Nat → Int32) (mk : Nat → Int64) (cX nY im : Nat → Int32), post (-1) (nI n, nI ga, nI gb, nI np, fb, fh, ce, pX, pY, cl, fr, mk, cX, nY, im, pl, nP, wo, lr, ob))
    (hY : ∀ b, b < n → (∀ j, j < np → py j ≠ b) → (∃ f, tg_GP n (tg_g c ga) (tg_g c gb) np px py f ∧ f a = b) → (∀ b', b' < b → ¬ ∃ f, tg_GP n (tg_g c ga) (tg_g c gb) np px py f ∧ f a = b') → ∀ (pX pY cl fr : Nat → Int32) (mk : Nat → Int64) (cX nY im : Nat → Int32), tg_PN n (np + 1) pX pY (tg_up px np a) (tg_up py np b) → post (nI b) (nI n, nI ga, nI gb, nI (np + 1), fb, fh, ce, pX, pY, cl, fr, mk, cX, nY, im, pl, nP, wo, lr, ob)) :
    ∀ (m b fu : Nat) (pX pY cl fr : Nat → Int32) (mk : Nat → Int64) (cX nY im : Nat → Int32), b + m = n → m < fu → tg_PN n np pX pY px py → (∀ b', b' < b → ¬ ∃ f, tg_GP n (tg_g c ga) (tg_g c gb) np px py f ∧ f a = b') → wX_leastPartner_2 post (nI a) fu (nI b) (nI n) (nI ga) (nI gb) (nI np) fb fh ce pX pY cl fr mk cX nY im pl nP wo lr ob := by
  intro m
  induction m with
  | zero =>
    intro b fu pX pY cl fr mk cX nY im h1 h2 h3 h5
    obtain ⟨fu, rfl⟩ : ∃ q, fu = q + 1 := ⟨fu - 1, by omega⟩
    exact br_t (nI_le (by omega) (by omega)) (hN (fun ⟨f, f1⟩ => h5 (f a) (by have := f1.1.1.1 a han; omega) ⟨f, f1, rfl⟩) pX pY cl fr mk cX nY im)
  | succ m ih =>
    intro b fu pX pY cl fr mk cX nY im h1 h2 h3 h5
    obtain ⟨fu, rfl⟩ : ∃ q, fu = q + 1 := ⟨fu - 1, by omega⟩
    have nx : (¬ ∃ f, tg_GP n (tg_g c ga) (tg_g c gb) np px py f ∧ f a = b) → ∀ b', b' < b + 1 → ¬ ∃ f, tg_GP n (tg_g c ga) (tg_g c gb) np px py f ∧ f a = b' := fun z b' hb' => by
      by_cases y : b' = b
      · subst y; exact z
      · exact h5 b' (by omega)
    refine br_f (nI_ge (by omega) (by omega)) (xx_pt hn (by omega) (by omega) h3 (fun ⟨k, k1, k2⟩ => br_f (by decide) (nm_r (nI_1 b) (ih (b + 1) fu pX pY cl fr mk cX nY im (by omega) (by omega) h3 (nx ?_)))) (fun z => br_t rfl (xx_pin hp ?_)))
    · intro ⟨f, f1, f2⟩
      refine hax k k1 (f1.1.1.2 _ _ (h3.1 k k1).1.2 han ?_)
      rw [f1.2 k k1, k2, f2]
    · refine xx_ex hn (by omega) (tg_PN_s h3 han (by omega) hax z) hc h4 ha hb (fun ⟨f, f1⟩ cl fr mk cX nY im => br_f (by decide) (hY b (by omega) z ⟨f, tg_GP_s.mp f1⟩ h5 _ _ cl fr mk cX nY im (tg_PN_s h3 han (by omega) hax z))) (fun w cl fr mk cX nY im => br_t rfl (nm_r (nI_pred np) (nm_r (nI_1 b) (ih (b + 1) fu _ _ cl fr mk cX nY im (by omega) (by omega) (tg_PN_m (a := a) (b := b) h3 _ _) (nx (fun ⟨f, f1⟩ => w ⟨f, tg_GP_s.mpr f1⟩))))))
theorem xx_lp {post : Int32 → SX → Prop} {np a : Nat} {px py : Nat → Nat} (hn : n ≤ 7) (hp : np < 7) (han : a < n) (hpn : tg_PN n np pX pY px py) (hax : ∀ j, j < np → px j ≠ a) (hc : ∀ i, ce i = nI (c i)) (h4 : ∀ i, c i < 4) (ha : ga < 2) (hb : gb < 2)
    (hN : (¬ ∃ f, tg_GP n (tg_g c ga) (tg_g c gb) np px py f) → ∀ (pX pY cl fr : Nat → Int32) (mk : Nat → Int64) (cX nY im : Nat → Int32), post (-1) (nI n, nI ga, nI gb, nI np, fb, fh, ce, pX, pY, cl, fr, mk, cX, nY, im, pl, nP, wo, lr, ob))
    (hY : ∀ b, b < n → (∀ j, j < np → py j ≠ b) → (∃ f, tg_GP n (tg_g c ga) (tg_g c gb) np px py f ∧ f a = b) → (∀ b', b' < b → ¬ ∃ f, tg_GP n (tg_g c ga) (tg_g c gb) np px py f ∧ f a = b') → ∀ (pX pY cl fr : Nat → Int32) (mk : Nat → Int64) (cX nY im : Nat → Int32), tg_PN n (np + 1) pX pY (tg_up px np a) (tg_up py np b) → post (nI b) (nI n, nI ga, nI gb, nI (np + 1), fb, fh, ce, pX, pY, cl, fr, mk, cX, nY, im, pl, nP, wo, lr, ob)) : wpX_leastPartner post (nI n, nI ga, nI gb, nI np, fb, fh, ce, pX, pY, cl, fr, mk, cX, nY, im, pl, nP, wo, lr, ob) (nI a) := by
  unfold wpX_leastPartner
  exact ⟨n + 1, xx_lp2 hn hp han hax hc h4 ha hb hN hY n 0 (n + 1) pX pY cl fr mk cX nY im (by omega) (by omega) hpn (fun b' hb' => absurd hb' (by omega))⟩
/-! countSymmetries -/
def tg_OB (n : Nat) (g : Nat → Nat → Nat) (a cc : Nat) : Prop := a < cc ∧ ∃ f, tg_Ax n g a f ∧ f a = cc
theorem tg_GP_Ax {n a b : Nat} {g : Nat → Nat → Nat} {f : Nat → Nat} : tg_GP n g g (a + 1) (tg_up (fun i => i) a a) (tg_up (fun i => i) a b) f ↔ tg_Ax n g a f ∧ f a = b := tg_GP_s
theorem tg_PN_0 (n : Nat) (pX pY : Nat → Int32) (px py : Nat → Nat) : tg_PN n 0 pX pY px py := ⟨fun k hk => absurd hk (by omega), fun j k _ hk => absurd hk (by omega), fun j k _ hk => absurd hk (by omega)⟩
theorem tg_PN_id {n a : Nat} {pX pY : Nat → Int32} (h : tg_PN n a pX pY (fun i => i) (fun i => i)) (ha : a < n) : tg_PN n (a + 1) (upd pX a (nI a)) (upd pY a (nI a)) (fun i => i) (fun i => i) := by
  have e : tg_up (fun i => i) a a = fun i => i := by
    funext i
    unfold tg_up
    by_cases z : i = a
    · rw [if_pos z, z]
    · rw [if_neg z]
  have := tg_PN_s h ha ha (fun j hj => by show j ≠ a; omega) (fun j hj => by show j ≠ a; omega)
  rw [e] at this
  exact this
theorem xx_cs26 {post : Int32 → SX → Prop} {J10 : Int32 → Int32 → Int32 → Int32 → Int32 → Int32 → Int64 → Int32 → (Nat → Int32) → (Nat → Int32) → (Nat → Int32) → (Nat → Int32) → (Nat → Int32) → (Nat → Int64) → (Nat → Int32) → (Nat → Int32) → (Nat → Int32) → (Nat → Int32) → (Nat → Int32) → (Nat → Int64) → (Nat → Int64) → (Nat → Int32) → Prop} {a g : Nat} {x2 : Int32} (hn : n ≤ 7) (han : a < n) (hc : ∀ i, ce i = nI (c i)) (h4 : ∀ i, c i < 4) (hg : g < 2)
    (hJ : ∀ (pX pY cl fr : Nat → Int32) (mk : Nat → Int64) (cX nY im : Nat → Int32), tg_PN n (a + 1) pX pY (fun i => i) (fun i => i) → J10 (x2 * nI (1 + tg_cn (tg_OB n (tg_g c g) a) n)) (nI (a + 1)) (nI n) (nI g) (nI g) (nI (a + 1)) fb fh ce pX pY cl fr mk cX nY im pl nP wo lr ob) :
    ∀ (m b fu : Nat) (pX pY cl fr : Nat → Int32) (mk : Nat → Int64) (cX nY im : Nat → Int32), b + m = n → m < fu → a < b → tg_PN n a pX pY (fun i => i) (fun i => i) → wX_countSymmetries_26 post J10 x2 (nI a) fu (nI (1 + tg_cn (tg_OB n (tg_g c g) a) b)) (nI b) (nI n) (nI g) (nI g) (nI a) fb fh ce pX pY cl fr mk cX nY im pl nP wo lr ob := by
  intro m
  induction m with
  | zero =>
    intro b fu pX pY cl fr mk cX nY im h1 h2 h3 h5
    obtain ⟨fu, rfl⟩ : ∃ q, fu = q + 1 := ⟨fu - 1, by omega⟩
    obtain rfl : b = n := by omega
    exact br_t (nI_le (Nat.le_refl _) (by omega)) (nm_e (xx_pin (by omega) (nm_r (nI_1 a) (hJ _ _ cl fr mk cX nY im (tg_PN_id h5 han)))))
  | succ m ih =>
    intro b fu pX pY cl fr mk cX nY im h1 h2 h3 h5
    obtain ⟨fu, rfl⟩ : ∃ q, fu = q + 1 := ⟨fu - 1, by omega⟩
    have hpn := tg_PN_s h5 han (b := b) (by omega) (fun j hj => by show j ≠ a; omega) (fun j hj => by show j ≠ b; omega)
    refine br_f (nI_ge (by omega) (by omega)) (xx_pin (by omega) (xx_ex hn (by omega) hpn hc h4 hg hg (fun ⟨f, f1⟩ cl fr mk cX nY im => br_f (by decide) (nm_r (nI_1 _) ?_)) (fun z cl fr mk cX nY im => br_t rfl ?_)))
    · have e : 1 + tg_cn (tg_OB n (tg_g c g) a) b + 1 = 1 + tg_cn (tg_OB n (tg_g c g) a) (b + 1) := by
        rw [tg_cn_s, tg_bt (P := tg_OB n (tg_g c g) a b) ⟨h3, f, tg_GP_Ax.mp f1⟩]; omega
      rw [e]
      exact nm_r (nI_pred a) (nm_r (nI_1 b) (ih (b + 1) fu _ _ cl fr mk cX nY im (by omega) (by omega) (by omega) (tg_PN_m (a := a) (b := b) h5 _ _)))
    · have e : tg_cn (tg_OB n (tg_g c g) a) b = tg_cn (tg_OB n (tg_g c g) a) (b + 1) := by
        rw [tg_cn_s, tg_bf (P := tg_OB n (tg_g c g) a b) (fun ⟨_, f, f1⟩ => z ⟨f, tg_GP_Ax.mpr f1⟩)]; omega
      rw [e]
      exact nm_r (nI_pred a) (nm_r (nI_1 b) (ih (b + 1) fu _ _ cl fr mk cX nY im (by omega) (by omega) (by omega) (tg_PN_m (a := a) (b := b) h5 _ _)))
theorem xx_cs10 {post : Int32 → SX → Prop} {g : Nat} (hn : n ≤ 7) (hc : ∀ i, ce i = nI (c i)) (h4 : ∀ i, c i < 4) (hg : g < 2)
    (hJ : ∀ (fp : Int32) (pX pY cl fr : Nat → Int32) (mk : Nat → Int64) (cX nY im : Nat → Int32), post (nI (tg_nm n (tg_Ly n (tg_g c g) (tg_g c g)))) (nI n, nI g, nI g, fp, fb, fh, ce, pX, pY, cl, fr, mk, cX, nY, im, pl, nP, wo, lr, ob)) :
    ∀ (m a fu P : Nat) (pX pY cl fr : Nat → Int32) (mk : Nat → Int64) (cX nY im : Nat → Int32), a + m = n → m < fu → P * tg_nm n (tg_Ax n (tg_g c g) a) = tg_nm n (tg_Ly n (tg_g c g) (tg_g c g)) → tg_PN n a pX pY (fun i => i) (fun i => i) → wX_countSymmetries_10 post fu (nI P) (nI a) (nI n) (nI g) (nI g) (nI a) fb fh ce pX pY cl fr mk cX nY im pl nP wo lr ob := by
  intro m
  induction m with
  | zero =>
    intro a fu P pX pY cl fr mk cX nY im h1 h2 h3 h5
    obtain ⟨fu, rfl⟩ : ∃ q, fu = q + 1 := ⟨fu - 1, by omega⟩
    obtain rfl : a = n := by omega
    rw [tg_orbE, Nat.mul_one] at h3
    rw [h3]
    exact br_t (nI_le (Nat.le_refl _) (by omega)) (hJ (nI a) pX pY cl fr mk cX nY im)
  | succ m ih =>
    intro a fu P pX pY cl fr mk cX nY im h1 h2 h3 h5
    obtain ⟨fu, rfl⟩ : ∃ q, fu = q + 1 := ⟨fu - 1, by omega⟩
    have e1 := tg_orb (n := n) (g := tg_g c g) (a := a) (by omega)
    have e2 := tg_orbS (n := n) (g := tg_g c g) (a := a) (by omega) n (by omega) (Nat.le_refl _)
    have e0 : tg_cn (tg_OB n (tg_g c g) a) (a + 1) = 0 := tg_cn_zero fun k hk z => absurd z.1 (by omega)
    have key := xx_cs26 (post := post) (J10 := wX_countSymmetries_10 post fu) (a := a) (g := g) (x2 := nI P) hn (by omega) hc h4 hg (fun pX pY cl fr mk cX nY im hpn => by
      rw [pk_mul]
      refine ih (a + 1) fu _ pX pY cl fr mk cX nY im (by omega) (by omega) ?_ hpn
      have e3 : tg_cn (tg_OB n (tg_g c g) a) n + 1 = tg_cn (fun c' => ∃ f, tg_Ax n (tg_g c g) a f ∧ f a = c') n := e2.symm
      rw [Nat.add_comm 1, e3, Nat.mul_assoc, ← e1]
      exact h3) (n - (a + 1)) (a + 1) (n - (a + 1) + 1) pX pY cl fr mk cX nY im (by omega) (by omega) (by omega) h5
    rw [e0] at key
    exact br_f (nI_ge (by omega) (by omega)) (nm_r (nI_1 a) ⟨_, key⟩)
theorem xx_cs {post : Int32 → SX → Prop} {g : Nat} (hn : n ≤ 7) (hc : ∀ i, ce i = nI (c i)) (h4 : ∀ i, c i < 4) (hg : g < 2)
    (hJ : ∀ (gX gY fp : Int32) (pX pY cl fr : Nat → Int32) (mk : Nat → Int64) (cX nY im : Nat → Int32), post (nI (tg_nm n (tg_Ly n (tg_g c g) (tg_g c g)))) (nI n, gX, gY, fp, fb, fh, ce, pX, pY, cl, fr, mk, cX, nY, im, pl, nP, wo, lr, ob)) : wpX_countSymmetries post (nI n, gX, gY, fp, fb, fh, ce, pX, pY, cl, fr, mk, cX, nY, im, pl, nP, wo, lr, ob) (nI g) := by
  unfold wpX_countSymmetries wpX_aim
  refine ⟨n + 1, ?_⟩
  exact xx_cs10 hn hc h4 hg (fun fp => hJ (nI g) (nI g) fp) n 0 (n + 1) 1 pX pY cl fr mk cX nY im (by omega) (by omega) (by rw [Nat.one_mul, tg_orb0]) (tg_PN_0 n pX pY _ _)
end
end
section
/-! the least form -/
def tg_PL (n d : Nat) (pl : Nat → Int32) (q : Nat → Nat) : Prop := (∀ k, k < d → pl k = nI (q k) ∧ q k < n) ∧ ∀ j k, j < k → k < d → q j ≠ q k
def tg_NP (d : Nat) (q : Nat → Nat) (v : Nat) : Prop := ∀ k, k < d → q k ≠ v
theorem tg_PL_free {n : Nat} {pl : Nat → Int32} {q : Nat → Nat} : ∀ d, tg_PL n d pl q → tg_cn (tg_NP d q) n + d = n
  | 0, _ => by
    have := tg_cn_all (P := tg_NP 0 q) (n := n) (fun b _ k hk => absurd hk (by omega))
    omega
  | d + 1, h => by
    have ih := tg_PL_free d ⟨fun k hk => h.1 k (by omega), fun j k hj hk => h.2 j k hj (by omega)⟩
    have e := tg_cn_add (P := tg_NP (d + 1) q) (h.1 d (by omega)).2 (fun z => z d (by omega) rfl)
    have e2 := tg_cn_eq (P := tg_NP d q) (Q := fun b => tg_NP (d + 1) q b ∨ b = q d) (n := n) (fun b _ => ⟨fun z => by
      by_cases y : b = q d
      · exact Or.inr y
      · refine Or.inl fun k hk => ?_
        by_cases x : k = d
        · subst x; exact fun w => y w.symm
        · exact z k (by omega), fun z k hk => by
      rcases z with z | z
      · exact z k (by omega)
      · rw [z]; exact h.2 k d hk (by omega)⟩)
    omega
theorem tg_PL_ex {n d : Nat} {pl : Nat → Int32} {q : Nat → Nat} (h : tg_PL n d pl q) (hd : d < n) : ∃ u, u < n ∧ tg_NP d q u := by
  have := tg_PL_free d h
  exact tg_cn_ex (by omega)
theorem tg_PL_IP {n : Nat} {pl : Nat → Int32} {q : Nat → Nat} (h : tg_PL n n pl q) : tg_IP n q := by
  refine ⟨fun k hk => (h.1 k hk).2, fun j k hj hk e => ?_⟩
  rcases Nat.lt_trichotomy j k with z | z | z
  · exact absurd e (h.2 j k z hk)
  · exact z
  · exact absurd e.symm (h.2 k j z hj)
theorem tg_PL_s {n d v : Nat} {pl : Nat → Int32} {q : Nat → Nat} (h : tg_PL n d pl q) (hv : v < n) (hu : tg_NP d q v) : tg_PL n (d + 1) (upd pl d (nI v)) (tg_up q d v) := by
  refine ⟨fun k hk => ?_, fun j k hj hk => ?_⟩
  · by_cases y : k = d
    · subst y; rw [pk_us, tg_up_s]; exact ⟨rfl, hv⟩
    · rw [pk_un y, tg_up_n y]; exact h.1 k (by omega)
  · rw [tg_up_n (by omega)]
    by_cases y : k = d
    · subst y; rw [tg_up_s]; exact hu j hj
    · rw [tg_up_n y]; exact h.2 j k hj (by omega)
def tg_CV (n : Nat) (g : Nat → Nat → Nat) (d : Nat) (q : Nat → Nat) (v : Nat) : Prop := ∃ s, tg_Ly n g g s ∧ (∀ k, k < d → s (q k) = q k) ∧ s v < v
theorem tg_row_62 {g : Nat → Nat → Nat} (hg : ∀ a b, g a b < 4) (p : Nat → Nat) (v : Nat) {d : Nat} (hd : d ≤ 7) : tg_row g p v d < 2 ^ 62 :=
  Nat.lt_of_lt_of_le (tg_row_lt hg p v d) (Nat.pow_le_pow_right (by decide) (by omega))
theorem tg_56 {n : Nat} (hn : n ≤ 7) : n * (n + 1) ≤ 56 := Nat.le_trans (Nat.mul_le_mul hn (Nat.succ_le_succ hn)) (by decide)
theorem tg_wd_56 {g : Nat → Nat → Nat} (hg : ∀ a b, g a b < 4) (p : Nat → Nat) {d : Nat} (hd : d ≤ 7) : tg_wd g p d < 2 ^ 56 :=
  Nat.lt_of_lt_of_le (tg_wd_lt hg p d) (Nat.pow_le_pow_right (by decide) (tg_56 hd))
theorem xx_l4 (a b : Nat) : (4 : Int64) * lN a + lN b = lN (4 * a + b) := by rw [show (4 : Int64) = lN 4 from rfl, lN_mul, lN_add]
/-- the best so far: 2^60 where there is none -/
def tg_BB (n : Nat) (g : Nat → Nat → Nat) (fb : Int64) (fh : Int32) (B : Nat) : Prop := (fh = 0 ∧ B = 2 ^ 60) ∨ (fh = 1 ∧ fb = lN B ∧ ∃ p, tg_IP n p ∧ tg_wd g p n = B)
theorem tg_BB_w {n : Nat} {g : Nat → Nat → Nat} {fb : Int64} {fh : Int32} {B : Nat} (hg : ∀ a b, g a b < 4) (hn : n ≤ 7) (h : tg_BB n g fb fh B) : B ≤ 2 ^ 60 := by
  rcases h with h | ⟨_, _, p, _, e⟩
  · omega
  · have := tg_wd_56 hg p hn; omega
theorem xx_wrd {W L d : Nat} (hd : d ≤ 6) (hW : W < 2 ^ (d * (d + 1))) (hL : L < 2 ^ (2 * (d + 1))) : lN W <<< ((2 * (nI d + 1)).toInt64 &&& 63) ||| lN L = lN (W * 2 ^ (2 * (d + 1)) + L) := by
  have e : 2 * (nI d + 1) = nI (2 * (d + 1)) := by rw [nI_1, show (2 : Int32) = nI 2 from rfl, pk_mul]
  rw [e, wb_shl W (by omega)]
  refine g_or rfl hL ?_
  have c : (W + 1) * 2 ^ (2 * (d + 1)) ≤ 2 ^ (d * (d + 1)) * 2 ^ (2 * (d + 1)) := Nat.mul_le_mul_right _ hW
  rw [Nat.add_mul, Nat.one_mul, ← Nat.pow_add] at c
  have b : d * (d + 1) ≤ 42 := Nat.le_trans (Nat.mul_le_mul hd (Nat.succ_le_succ hd)) (by decide)
  have c2 : 2 ^ (d * (d + 1) + 2 * (d + 1)) ≤ 2 ^ 63 := Nat.pow_le_pow_right (by decide) (by omega)
  omega
section
variable {n : Nat} {gX gY fp : Int32} {fb : Int64} {fh : Int32} {ce pX pY cl fr : Nat → Int32} {mk : Nat → Int64} {cX nY im pl nP : Nat → Int32} {wo lr : Nat → Int64} {ob : Nat → Int32} {c : Nat → Nat} {ga gb : Nat}
theorem xx_ip2 {post : Int32 → Prop} {d v : Nat} {q : Nat → Nat} (hn : n ≤ 7) (hd : d ≤ 7) (hv : v < n) (hpl : tg_PL n d pl q) (h1 : ¬ tg_NP d q v → post 1) (h0 : tg_NP d q v → post 0) :
    ∀ (m k fu : Nat), k + m = d → m < fu → (∀ j, j < k → q j ≠ v) → wX_isPlaced_2 post (nI d) (nI v) (nI n) gX gY fp fb fh ce pX pY cl fr mk cX nY im pl nP wo lr ob fu (nI k) := by
  intro m
  induction m with
  | zero =>
    intro k fu h2 h3 h4
    obtain ⟨fu, rfl⟩ : ∃ q, fu = q + 1 := ⟨fu - 1, by omega⟩
    exact br_t (nI_le (by omega) (by omega)) (h0 (fun j hj => h4 j (by omega)))
  | succ m ih =>
    intro k fu h2 h3 h4
    obtain ⟨fu, rfl⟩ : ∃ q, fu = q + 1 := ⟨fu - 1, by omega⟩
    obtain ⟨e, e2⟩ := hpl.1 k (by omega)
    refine br_f (nI_ge (by omega) (by omega)) ⟨vp_in_nI (by omega) (by decide), ?_⟩
    rw [nI_clamp (by omega), e]
    refine pk_eq (q k) v (fun z => h1 (fun y => y k (by omega) z)) (fun z => nm_r (nI_1 k) (ih (k + 1) fu (by omega) (by omega) (fun j hj => ?_)))
    by_cases y : j = k
    · subst y; exact z
    · exact h4 j (by omega)
theorem xx_ip {post : Int32 → Prop} {d v : Nat} {q : Nat → Nat} (hn : n ≤ 7) (hd : d ≤ 7) (hv : v < n) (hpl : tg_PL n d pl q) (h1 : ¬ tg_NP d q v → post 1) (h0 : tg_NP d q v → post 0) : wpX_isPlaced post (nI n, gX, gY, fp, fb, fh, ce, pX, pY, cl, fr, mk, cX, nY, im, pl, nP, wo, lr, ob) (nI d) (nI v) := by
  unfold wpX_isPlaced
  exact ⟨d + 1, xx_ip2 hn hd hv hpl h1 h0 d 0 (d + 1) (by omega) (by omega) (fun j hj => absurd hj (by omega))⟩
theorem xx_ro5 {post : Int64 → Prop} {d v : Nat} {q : Nat → Nat} (hn : n ≤ 7) (hd : d ≤ 7) (hv : v < n) (hpl : tg_PL n d pl q) (hc : ∀ i, ce i = nI (c i)) (h4 : ∀ i, c i < 4) (ha : ga < 2) (h : post (lN (tg_row (tg_g c ga) q v d))) :
    ∀ (m k fu : Nat), k + m = d → m < fu → wX_rowOf_5 post (nI d) (nI v) (nI n) (nI ga) (nI gb) fp fb fh ce pX pY cl fr mk cX nY im pl nP wo lr ob fu (lN (tg_rw (tg_g c ga) q v k)) (nI k) := by
  intro m
  induction m with
  | zero =>
    intro k fu h2 h3
    obtain ⟨fu, rfl⟩ : ∃ q, fu = q + 1 := ⟨fu - 1, by omega⟩
    obtain rfl : k = d := by omega
    refine br_t (nI_le (by omega) (by omega)) (xx_shx hc ha (by omega) (by omega) ?_)
    rw [nI_l (by have := h4 (49 * ga + 7 * v + v); unfold tg_g; omega), xx_l4]
    exact h
  | succ m ih =>
    intro k fu h2 h3
    obtain ⟨fu, rfl⟩ : ∃ q, fu = q + 1 := ⟨fu - 1, by omega⟩
    obtain ⟨e, e2⟩ := hpl.1 k (by omega)
    refine br_f (nI_ge (by omega) (by omega)) ⟨vp_in_nI (by omega) (by decide), ?_⟩
    rw [nI_clamp (by omega), e]
    refine xx_shx hc ha (by omega) (by omega) ?_
    rw [nI_l (by have := h4 (49 * ga + 7 * v + q k); unfold tg_g; omega), xx_l4]
    exact nm_e (nm_r (nI_1 k) (ih (k + 1) fu (by omega) (by omega)))
theorem xx_ro {post : Int64 → Prop} {d v : Nat} {q : Nat → Nat} (hn : n ≤ 7) (hd : d ≤ 7) (hv : v < n) (hpl : tg_PL n d pl q) (hc : ∀ i, ce i = nI (c i)) (h4 : ∀ i, c i < 4) (ha : ga < 2) (h : post (lN (tg_row (tg_g c ga) q v d))) : wpX_rowOf post (nI n, nI ga, nI gb, fp, fb, fh, ce, pX, pY, cl, fr, mk, cX, nY, im, pl, nP, wo, lr, ob) (nI d) (nI v) := by
  unfold wpX_rowOf
  exact ⟨d + 1, xx_ro5 hn hd hv hpl hc h4 ha h d 0 (d + 1) (by omega) (by omega)⟩
def tg_EI (g : Nat → Nat → Nat) (d : Nat) (q : Nat → Nat) (x : Int64) (v : Nat) : Prop := (x = -1 ∧ ∀ u, u < v → ¬ tg_NP d q u) ∨ ∃ L, x = lN L ∧ L < 2 ^ 62 ∧ (∃ u, u < v ∧ tg_NP d q u ∧ tg_row g q u d = L) ∧ ∀ u, u < v → tg_NP d q u → L ≤ tg_row g q u d
theorem xx_ef14 {post : SX → Prop} {d : Nat} {q : Nat → Nat} (hn : n ≤ 7) (hd : d ≤ 7) (hpl : tg_PL n d pl q) (hc : ∀ i, ce i = nI (c i)) (h4 : ∀ i, c i < 4) (ha : ga < 2) (hex : ∃ u, u < n ∧ tg_NP d q u)
    (hJ : ∀ L, (∀ u, u < n → tg_NP d q u → L ≤ tg_row (tg_g c ga) q u d) → (∃ u, u < n ∧ tg_NP d q u ∧ tg_row (tg_g c ga) q u d = L) → post (nI n, nI ga, nI gb, fp, fb, fh, ce, pX, pY, cl, fr, mk, cX, nY, im, pl, nP, wo, vp_updL lr d (lN L), ob)) :
    ∀ (m v fu : Nat) (x : Int64), v + m = n → m < fu → tg_EI (tg_g c ga) d q x v → wX_enterForm_14 post (nI d) (nI n) (nI ga) (nI gb) fp fb fh ce pX pY cl fr mk cX nY im pl nP wo lr ob fu x (nI v) := by
  intro m
  induction m with
  | zero =>
    intro v fu x h1 h2 h3
    obtain ⟨fu, rfl⟩ : ∃ q, fu = q + 1 := ⟨fu - 1, by omega⟩
    obtain rfl : v = n := by omega
    refine br_t (nI_le (by omega) (by omega)) ⟨vp_in_nI (by omega) (by decide), ?_⟩
    rw [nI_clamp (by omega)]
    rcases h3 with ⟨_, z⟩ | ⟨L, e, e2, e3, e4⟩
    · obtain ⟨u, u1, u2⟩ := hex
      exact absurd u2 (z u u1)
    · rw [e]
      exact nm_e (hJ L e4 e3)
  | succ m ih =>
    intro v fu x h1 h2 h3
    obtain ⟨fu, rfl⟩ : ∃ q, fu = q + 1 := ⟨fu - 1, by omega⟩
    have hr := tg_row_62 (g := tg_g c ga) (fun a b => h4 _) q v hd
    refine br_f (nI_ge (by omega) (by omega)) (xx_ip hn hd (by omega) hpl (fun z => br_f (by decide) (nm_r (nI_1 v) (ih (v + 1) fu x (by omega) (by omega) ?_))) (fun z => br_t rfl (xx_ro hn hd (by omega) hpl hc h4 ha ?_)))
    · rcases h3 with ⟨e, y⟩ | ⟨L, e, e2, ⟨u, u1, u2, u3⟩, e4⟩
      · refine Or.inl ⟨e, fun u hu => ?_⟩
        by_cases w : u = v
        · subst w; exact z
        · exact y u (by omega)
      · refine Or.inr ⟨L, e, e2, ⟨u, by omega, u2, u3⟩, fun u hu hnp => ?_⟩
        by_cases w : u = v
        · subst w; exact absurd hnp z
        · exact e4 u (by omega) hnp
    · rcases h3 with ⟨e, y⟩ | ⟨L, e, e2, ⟨u, u1, u2, u3⟩, e4⟩
      · rw [e]
        refine br_t (by decide) (nm_r (nI_1 v) (ih (v + 1) fu _ (by omega) (by omega) (Or.inr ⟨_, rfl, hr, ⟨v, by omega, z, rfl⟩, fun u hu hnp => ?_⟩)))
        by_cases w : u = v
        · subst w; exact Nat.le_refl _
        · exact absurd hnp (y u (by omega))
      · rw [e]
        refine br_f (fun w => absurd ((pk_lLT (b := 0) (by omega) (by decide)).mp w) (by omega)) (br_c (fun w => nm_r (nI_1 v) (ih (v + 1) fu _ (by omega) (by omega) (Or.inr ⟨L, rfl, e2, ⟨u, by omega, u2, u3⟩, fun u hu hnp => ?_⟩))) (fun w => nm_r (nI_1 v) (ih (v + 1) fu _ (by omega) (by omega) (Or.inr ⟨_, rfl, hr, ⟨v, by omega, z, rfl⟩, fun u hu hnp => ?_⟩))))
        · rw [pk_lLE (by omega) (by omega)] at w
          by_cases y : u = v
          · subst y; exact w
          · exact e4 u (by omega) hnp
        · rw [pk_lLE (by omega) (by omega)] at w
          by_cases y : u = v
          · subst y; exact Nat.le_refl _
          · have := e4 u (by omega) hnp
            omega
theorem xx_ef {post : SX → Prop} {d : Nat} {q : Nat → Nat} (hn : n ≤ 7) (hd : d ≤ 7) (hpl : tg_PL n d pl q) (hc : ∀ i, ce i = nI (c i)) (h4 : ∀ i, c i < 4) (ha : ga < 2) (hex : ∃ u, u < n ∧ tg_NP d q u)
    (hJ : ∀ L, (∀ u, u < n → tg_NP d q u → L ≤ tg_row (tg_g c ga) q u d) → (∃ u, u < n ∧ tg_NP d q u ∧ tg_row (tg_g c ga) q u d = L) → post (nI n, nI ga, nI gb, fp, fb, fh, ce, pX, pY, cl, fr, mk, cX, nY, im, pl, upd nP d 0, wo, vp_updL lr d (lN L), ob)) : wpX_enterForm post (nI n, nI ga, nI gb, fp, fb, fh, ce, pX, pY, cl, fr, mk, cX, nY, im, pl, nP, wo, lr, ob) (nI d) := by
  unfold wpX_enterForm
  refine ⟨vp_in_nI (by omega) (by decide), ?_⟩
  rw [nI_clamp (by omega)]
  exact nm_e ⟨n + 1, xx_ef14 hn hd hpl hc h4 ha hex hJ n 0 (n + 1) (-1) (by omega) (by omega) (Or.inl ⟨rfl, fun u hu => absurd hu (by omega)⟩)⟩
/-! covered -/
theorem xx_ic19 {post : Int32 → Prop} {u v : Nat} (hn : n ≤ 7) (hu : u < n) (hv : v < n) (hc : ∀ i, ce i = nI (c i)) (h4 : ∀ i, c i < 4) (ha : ga < 2) (h1 : (∀ w, w < n → w ≠ u → w ≠ v → tg_g c ga u w = tg_g c ga v w) → post 1) (h0 : post 0) :
    ∀ (m w fu : Nat), w + m = n → m < fu → (∀ z, z < w → z ≠ u → z ≠ v → tg_g c ga u z = tg_g c ga v z) → wX_interchangeable_19 post (nI u) (nI v) (nI n) (nI ga) (nI gb) fp fb fh ce pX pY cl fr mk cX nY im pl nP wo lr ob fu (nI w) := by
  intro m
  induction m with
  | zero =>
    intro w fu h2 h3 h5
    obtain ⟨fu, rfl⟩ : ∃ q, fu = q + 1 := ⟨fu - 1, by omega⟩
    exact br_t (nI_le (by omega) (by omega)) (h1 (fun z hz => h5 z (by omega)))
  | succ m ih =>
    intro w fu h2 h3 h5
    obtain ⟨fu, rfl⟩ : ∃ q, fu = q + 1 := ⟨fu - 1, by omega⟩
    have c1 : tg_g c ga u w < 4 := h4 _
    have c2 : tg_g c ga v w < 4 := h4 _
    have nx : (w ≠ u → w ≠ v → tg_g c ga u w = tg_g c ga v w) → wX_interchangeable_19 post (nI u) (nI v) (nI n) (nI ga) (nI gb) fp fb fh ce pX pY cl fr mk cX nY im pl nP wo lr ob fu (nI (w + 1)) := fun e => ih (w + 1) fu (by omega) (by omega) (fun z hz z1 z2 => by
      by_cases y : z = w
      · subst y; exact e z1 z2
      · exact h5 z (by omega) z1 z2)
    exact br_f (nI_ge (by omega) (by omega)) (pk_eq w u (fun e => nm_r (nI_1 w) (nx (fun z => absurd e z))) (fun e => pk_eq w v (fun e2 => nm_r (nI_1 w) (nx (fun _ z => absurd e2 z))) (fun e2 => xx_shx hc ha (by omega) (by omega) (xx_shx hc ha (by omega) (by omega) (pk_eq (tg_g c ga u w) (tg_g c ga v w) (fun e3 => nm_r (nI_1 w) (nx (fun _ _ => e3))) (fun _ => h0))))))
theorem xx_ic {post : Int32 → Prop} {u v : Nat} (hn : n ≤ 7) (hu : u < n) (hv : v < n) (hc : ∀ i, ce i = nI (c i)) (h4 : ∀ i, c i < 4) (ha : ga < 2) (h1 : tg_g c ga u u = tg_g c ga v v → (∀ w, w < n → w ≠ u → w ≠ v → tg_g c ga u w = tg_g c ga v w) → post 1) (h0 : post 0) : wpX_interchangeable post (nI n, nI ga, nI gb, fp, fb, fh, ce, pX, pY, cl, fr, mk, cX, nY, im, pl, nP, wo, lr, ob) (nI u) (nI v) := by
  have c1 : tg_g c ga u u < 4 := h4 _
  have c2 : tg_g c ga v v < 4 := h4 _
  unfold wpX_interchangeable
  exact xx_shx hc ha (by omega) (by omega) (xx_shx hc ha (by omega) (by omega) (pk_eq (tg_g c ga u u) (tg_g c ga v v) (fun e => ⟨n + 1, xx_ic19 hn hu hv hc h4 ha (h1 e) h0 n 0 (n + 1) (by omega) (by omega) (fun z hz => absurd hz (by omega))⟩) (fun _ => h0)))
theorem tg_twin {n u v : Nat} {g : Nat → Nat → Nat} (hu : u < n) (hv : v < n) (hne : u ≠ v) (hs : ∀ a b, a < n → b < n → g a b = g b a) (h1 : g u u = g v v) (h2 : ∀ w, w < n → w ≠ u → w ≠ v → g u w = g v w) : tg_Ly n g g (tg_sw u v) := by
  refine ⟨tg_sw_IP hu hv, fun a b ha hb => ?_⟩
  by_cases a1 : a = u
  · subst a1; rw [tg_sw_l]
    by_cases b1 : b = a
    · subst b1; rw [tg_sw_l]; exact h1
    · by_cases b2 : b = v
      · subst b2; rw [tg_sw_r]; exact hs _ _ hu hv
      · rw [tg_sw_n b1 b2]; exact h2 b hb b1 b2
  · by_cases a2 : a = v
    · subst a2; rw [tg_sw_r]
      by_cases b1 : b = u
      · subst b1; rw [tg_sw_l]; exact hs _ _ hv hu
      · by_cases b2 : b = a
        · subst b2; rw [tg_sw_r]; exact h1.symm
        · rw [tg_sw_n b1 b2]; exact (h2 b hb b1 b2).symm
    · rw [tg_sw_n a1 a2]
      by_cases b1 : b = u
      · subst b1; rw [tg_sw_l, hs a b ha hb, hs a v ha hv]; exact h2 a ha a1 a2
      · by_cases b2 : b = v
        · subst b2; rw [tg_sw_r, hs a b ha hb, hs a u ha hu]; exact (h2 a ha a1 a2).symm
        · rw [tg_sw_n b1 b2]
theorem xx_cv22 {post : Int32 → Prop} {d v : Nat} {q : Nat → Nat} (hn : n ≤ 7) (hd : d ≤ 7) (hv : v < n) (hnp : tg_NP d q v) (hpl : tg_PL n d pl q) (hc : ∀ i, ce i = nI (c i)) (h4 : ∀ i, c i < 4) (ha : ga < 2) (hs : ∀ a b, a < n → b < n → tg_g c ga a b = tg_g c ga b a)
    (h1 : tg_CV n (tg_g c ga) d q v → post 1) (h0 : post 0) : ∀ (m u fu : Nat), u + m = v → m < fu → wX_covered_22 post (nI d) (nI v) (nI n) (nI ga) (nI gb) fp fb fh ce pX pY cl fr mk cX nY im pl nP wo lr ob fu (nI u) := by
  intro m
  induction m with
  | zero =>
    intro u fu h2 h3
    obtain ⟨fu, rfl⟩ : ∃ q, fu = q + 1 := ⟨fu - 1, by omega⟩
    exact br_t (nI_le (by omega) (by omega)) h0
  | succ m ih =>
    intro u fu h2 h3
    obtain ⟨fu, rfl⟩ : ∃ q, fu = q + 1 := ⟨fu - 1, by omega⟩
    have nx := ih (u + 1) fu (by omega) (by omega)
    refine br_f (nI_ge (by omega) (by omega)) (xx_ip hn hd (by omega) hpl (fun z => br_f (by decide) (nm_r (nI_1 u) nx)) (fun z => br_t rfl (xx_ic hn (by omega) hv hc h4 ha (fun e1 e2 => br_f (by decide) (h1 ⟨tg_sw u v, tg_twin (by omega) hv (by omega) hs e1 e2, fun k hk => tg_sw_n (z k hk) (hnp k hk), ?_⟩)) (br_t rfl (nm_r (nI_1 u) nx)))))
    rw [tg_sw_r]; omega
theorem xx_cv {post : Int32 → Prop} {d v : Nat} {q : Nat → Nat} (hn : n ≤ 7) (hd : d ≤ 7) (hv : v < n) (hnp : tg_NP d q v) (hpl : tg_PL n d pl q) (hc : ∀ i, ce i = nI (c i)) (h4 : ∀ i, c i < 4) (ha : ga < 2) (hs : ∀ a b, a < n → b < n → tg_g c ga a b = tg_g c ga b a)
    (hob : ∀ v, v < n → ∃ s, tg_Ly n (tg_g c ga) (tg_g c ga) s ∧ ob v = nI (s v)) (h1 : tg_CV n (tg_g c ga) d q v → post 1) (h0 : post 0) : wpX_covered post (nI n, nI ga, nI gb, fp, fb, fh, ce, pX, pY, cl, fr, mk, cX, nY, im, pl, nP, wo, lr, ob) (nI d) (nI v) := by
  unfold wpX_covered
  refine pk_eq d 0 (fun e => ⟨vp_in_nI (by omega) (by decide), ?_⟩) (fun e => ⟨v + 1, xx_cv22 hn hd hv hnp hpl hc h4 ha hs h1 h0 v 0 (v + 1) (by omega) (by omega)⟩)
  obtain ⟨s, s1, s2⟩ := hob v hv
  have := s1.1.1 v hv
  rw [nI_clamp (by omega), s2]
  exact pk_le v (s v) (fun _ => h0) (fun z => h1 ⟨s, s1, fun k hk => absurd hk (by omega), z⟩)
theorem xx_nc7 {post : Int32 → Prop} {d j L : Nat} {q : Nat → Nat} (hn : n ≤ 7) (hd : d ≤ 7) (hpl : tg_PL n d pl q) (hc : ∀ i, ce i = nI (c i)) (h4 : ∀ i, c i < 4) (ha : ga < 2) (hs : ∀ a b, a < n → b < n → tg_g c ga a b = tg_g c ga b a)
    (hob : ∀ v, v < n → ∃ s, tg_Ly n (tg_g c ga) (tg_g c ga) s ∧ ob v = nI (s v)) (hL : L < 2 ^ 62) (hlr : lr d = lN L)
    (hN : (∀ v, j ≤ v → v < n → tg_NP d q v → tg_row (tg_g c ga) q v d = L → tg_CV n (tg_g c ga) d q v) → post (-1))
    (hY : ∀ v, j ≤ v → v < n → tg_NP d q v → tg_row (tg_g c ga) q v d = L → (∀ u, j ≤ u → u < v → tg_NP d q u → tg_row (tg_g c ga) q u d = L → tg_CV n (tg_g c ga) d q u) → post (nI v)) :
    ∀ (m v fu : Nat), v + m = n → m < fu → j ≤ v → (∀ u, j ≤ u → u < v → tg_NP d q u → tg_row (tg_g c ga) q u d = L → tg_CV n (tg_g c ga) d q u) → wX_nextCandidate_7 post (nI d) (nI n) (nI ga) (nI gb) fp fb fh ce pX pY cl fr mk cX nY im pl nP wo lr ob fu (nI v) := by
  intro m
  induction m with
  | zero =>
    intro v fu h2 h3 h5 h6
    obtain ⟨fu, rfl⟩ : ∃ q, fu = q + 1 := ⟨fu - 1, by omega⟩
    exact br_t (nI_le (by omega) (by omega)) (hN (fun u hu hun => h6 u hu (by omega)))
  | succ m ih =>
    intro v fu h2 h3 h5 h6
    obtain ⟨fu, rfl⟩ : ∃ q, fu = q + 1 := ⟨fu - 1, by omega⟩
    have nx : (tg_NP d q v → tg_row (tg_g c ga) q v d = L → tg_CV n (tg_g c ga) d q v) → wX_nextCandidate_7 post (nI d) (nI n) (nI ga) (nI gb) fp fb fh ce pX pY cl fr mk cX nY im pl nP wo lr ob fu (nI (v + 1)) := fun z => ih (v + 1) fu (by omega) (by omega) (by omega) (fun u hu hu2 => by
      by_cases y : u = v
      · subst y; exact z
      · exact h6 u hu (by omega))
    have hr := tg_row_62 (g := tg_g c ga) (fun a b => h4 _) q v hd
    refine br_f (nI_ge (by omega) (by omega)) (xx_ip hn hd (by omega) hpl (fun z => br_f (by decide) (nm_r (nI_1 v) (nx (fun y => absurd y z)))) (fun z => br_t rfl (xx_ro hn hd (by omega) hpl hc h4 ha ⟨vp_in_nI (by omega) (by decide), ?_⟩)))
    rw [nI_clamp (by omega), hlr]
    refine br_c (fun e => ?_) (fun e => nm_r (nI_1 v) (nx (fun _ y => absurd (by rw [y]) e)))
    rw [pk_lEQ (by omega) (by omega)] at e
    exact xx_cv hn hd (by omega) z hpl hc h4 ha hs hob (fun y => br_f (by decide) (nm_r (nI_1 v) (nx (fun _ _ => y)))) (br_t rfl (hY v h5 (by omega) z e h6))
theorem xx_nc {post : Int32 → Prop} {d j L : Nat} {q : Nat → Nat} (hn : n ≤ 7) (hd : d ≤ 7) (hpl : tg_PL n d pl q) (hc : ∀ i, ce i = nI (c i)) (h4 : ∀ i, c i < 4) (ha : ga < 2) (hs : ∀ a b, a < n → b < n → tg_g c ga a b = tg_g c ga b a)
    (hob : ∀ v, v < n → ∃ s, tg_Ly n (tg_g c ga) (tg_g c ga) s ∧ ob v = nI (s v)) (hL : L < 2 ^ 62) (hlr : lr d = lN L) (hj : j ≤ n) (hnp : nP d = nI j)
    (hN : (∀ v, j ≤ v → v < n → tg_NP d q v → tg_row (tg_g c ga) q v d = L → tg_CV n (tg_g c ga) d q v) → post (-1))
    (hY : ∀ v, j ≤ v → v < n → tg_NP d q v → tg_row (tg_g c ga) q v d = L → (∀ u, j ≤ u → u < v → tg_NP d q u → tg_row (tg_g c ga) q u d = L → tg_CV n (tg_g c ga) d q u) → post (nI v)) : wpX_nextCandidate post (nI n, nI ga, nI gb, fp, fb, fh, ce, pX, pY, cl, fr, mk, cX, nY, im, pl, nP, wo, lr, ob) (nI d) := by
  unfold wpX_nextCandidate
  refine ⟨vp_in_nI (by omega) (by decide), ?_⟩
  rw [nI_clamp (by omega)]
  exact nm_r hnp ⟨n - j + 1, xx_nc7 hn hd hpl hc h4 ha hs hob hL hlr hN hY (n - j) j (n - j + 1) (by omega) (by omega) (Nat.le_refl _) (fun u h1 h2 => by omega)⟩
end
end
section
/-! goOn, searchForm -/
theorem xx_rest {n d : Nat} (h : d ≤ n) : nI n * (nI n + 1) - nI d * (nI d + 1) = nI (n * (n + 1) - d * (d + 1)) := by
  rw [nI_1, nI_1, pk_mul, pk_mul, pk_sub (Nat.mul_le_mul h (by omega))]
def tg_TF : Nat → Nat
  | 0 => 0
  | r + 1 => 1 + (r + 1) * (1 + tg_TF r)
theorem tg_TF7 : ∀ k, k ≤ 7 → tg_TF k ≤ 22359 := by decide +kernel
def tg_FN (post : SX → Prop) (n ga gb : Nat) (fp : Int32) (c : Nat → Nat) (ce pX pY cl fr : Nat → Int32) (mk : Nat → Int64) (cX nY im ob : Nat → Int32) (r : Nat) : Prop :=
  ∀ (m d s fu j L B : Nat) (q : Nat → Nat) (fb : Int64) (fh : Int32) (pl nP : Nat → Int32) (wo lr : Nat → Int64), d + r + 1 = n → tg_cn (fun v => j ≤ v ∧ tg_NP d q v) n ≤ m → s + 1 + m * (1 + tg_TF r) ≤ 60000 → fu + s = 60001 → tg_PL n d pl q → wo d = lN (tg_wd (tg_g c ga) q d) → nP d = nI j → j ≤ n → lr d = lN L →
    (∀ u, u < n → tg_NP d q u → L ≤ tg_row (tg_g c ga) q u d) → (∃ u, u < n ∧ tg_NP d q u ∧ tg_row (tg_g c ga) q u d = L) → tg_BB n (tg_g c ga) fb fh B →
    (∀ v, v < j → v < n → tg_NP d q v → tg_row (tg_g c ga) q v d = L → ¬ tg_CV n (tg_g c ga) d q v → ∀ p, tg_IP n p → (∀ k, k < d → p k = q k) → p d = v → B ≤ tg_wd (tg_g c ga) p n) →
    (∀ (s' fu' B' : Nat) (fb' : Int64) (fh' : Int32) (pl' nP' : Nat → Int32) (wo' lr' : Nat → Int64), fu' + s' = 60001 → s' ≤ s + 1 + m * (1 + tg_TF r) → tg_BB n (tg_g c ga) fb' fh' B' → B' ≤ B → (∀ p, tg_IP n p → (∀ k, k < d → p k = q k) → B' ≤ tg_wd (tg_g c ga) p n) → (∀ i, i < d → pl' i = pl i ∧ nP' i = nP i ∧ lr' i = lr i) → (∀ i, i ≤ d → wo' i = wo i) → wX_searchForm_16 post fu' (nI d + (-1)) (nI s') (nI n) (nI ga) (nI gb) fp fb' fh' ce pX pY cl fr mk cX nY im pl' nP' wo' lr' ob) →
    wX_searchForm_16 post fu (nI d) (nI s) (nI n) (nI ga) (nI gb) fp fb fh ce pX pY cl fr mk cX nY im pl nP wo lr ob
section
variable {n : Nat} {gX gY fp : Int32} {fb : Int64} {fh : Int32} {ce pX pY cl fr : Nat → Int32} {mk : Nat → Int64} {cX nY im pl nP : Nat → Int32} {wo lr : Nat → Int64} {ob : Nat → Int32} {c : Nat → Nat} {ga gb : Nat}
theorem xx_go32 {post : Int32 → SX → Prop} {d : Nat} {q : Nat → Nat} (hn : n ≤ 7) (hw : wo n = lN (tg_wd (tg_g c ga) q n)) (h : post (nI d - 1) (nI n, nI ga, nI gb, fp, lN (tg_wd (tg_g c ga) q n), 1, ce, pX, pY, cl, fr, mk, cX, nY, im, pl, nP, wo, lr, ob)) : wX_goOn_32 post (nI d) (nI n) (nI ga) (nI gb) fp fb fh ce pX pY cl fr mk cX nY im pl nP wo lr ob := by
  unfold wX_goOn_32
  refine ⟨vp_in_nI (by omega) (by decide), ?_⟩
  rw [nI_clamp (by omega)]
  exact nm_r hw h
theorem xx_go {post : Int32 → SX → Prop} {d B : Nat} {q : Nat → Nat} (hn : n ≤ 7) (hd : d ≤ n) (hpl : tg_PL n d pl q) (hc : ∀ i, ce i = nI (c i)) (h4 : ∀ i, c i < 4) (ha : ga < 2) (hw : wo d = lN (tg_wd (tg_g c ga) q d)) (hB : tg_BB n (tg_g c ga) fb fh B)
    (hR : ∀ (fb' : Int64) (fh' : Int32) (B' : Nat), tg_BB n (tg_g c ga) fb' fh' B' → B' ≤ B → (∀ p, tg_IP n p → (∀ k, k < d → p k = q k) → B' ≤ tg_wd (tg_g c ga) p n) → post (nI d - 1) (nI n, nI ga, nI gb, fp, fb', fh', ce, pX, pY, cl, fr, mk, cX, nY, im, pl, nP, wo, lr, ob))
    (hE : d < n → ∀ L, (∀ u, u < n → tg_NP d q u → L ≤ tg_row (tg_g c ga) q u d) → (∃ u, u < n ∧ tg_NP d q u ∧ tg_row (tg_g c ga) q u d = L) → post (nI d) (nI n, nI ga, nI gb, fp, fb, fh, ce, pX, pY, cl, fr, mk, cX, nY, im, pl, upd nP d 0, wo, vp_updL lr d (lN L), ob)) : wpX_goOn post (nI n, nI ga, nI gb, fp, fb, fh, ce, pX, pY, cl, fr, mk, cX, nY, im, pl, nP, wo, lr, ob) (nI d) := by
  have hg : ∀ a b, tg_g c ga a b < 4 := fun a b => h4 _
  have b0 := tg_BB_w hg hn hB
  have b1 := tg_wd_56 hg q (d := d) (by omega)
  unfold wpX_goOn
  refine pk_eq d n (fun e => ?_) (fun e => ?_)
  · subst e
    have hq := tg_PL_IP hpl
    have all : ∀ p, tg_IP d p → (∀ k, k < d → p k = q k) → tg_wd (tg_g c ga) q d ≤ tg_wd (tg_g c ga) p d := fun p _ hp => by rw [tg_wd_c hp]; exact Nat.le_refl _
    have g32 : tg_wd (tg_g c ga) q d ≤ B → wX_goOn_32 post (nI d) (nI d) (nI ga) (nI gb) fp fb fh ce pX pY cl fr mk cX nY im pl nP wo lr ob := fun hle => xx_go32 hn hw (hR _ _ _ (Or.inr ⟨rfl, rfl, q, hq, rfl⟩) hle all)
    rcases hB with ⟨f0, hB⟩ | ⟨f1, f2, p, p1, p2⟩
    · exact br_t f0 (g32 (by omega))
    · refine br_f (by rw [f1]; decide) ⟨vp_in_nI (by omega) (by decide), ?_⟩
      rw [nI_clamp (by omega), hw, f2]
      refine br_c (fun z => ?_) (fun z => ?_)
      · rw [pk_lLE (by omega) (by omega)] at z
        exact hR _ _ B (Or.inr ⟨f1, rfl, p, p1, p2⟩) (Nat.le_refl _) (fun p' h1 h2 => Nat.le_trans z (all p' h1 h2))
      · rw [pk_lLE (by omega) (by omega)] at z
        exact g32 (by omega)
  · have hlt : d < n := by omega
    have g99 : wX_goOn_99 post (nI d) (nI n) (nI ga) (nI gb) fp fb fh ce pX pY cl fr mk cX nY im pl nP wo lr ob := by
      unfold wX_goOn_99
      exact xx_ef hn (by omega) hpl hc h4 ha (tg_PL_ex hpl hlt) (fun L l1 l2 => hE hlt L l1 l2)
    refine nm_r (xx_rest hd) ?_
    rcases hB with ⟨f0, hB⟩ | ⟨f1, f2, p, p1, p2⟩
    · exact br_t f0 g99
    · refine br_f (by rw [f1]; decide) ⟨vp_in_nI (by omega) (by decide), ?_⟩
      have b3 := tg_56 hn
      rw [nI_clamp (by omega), hw]
      refine br_c (fun _ => g99) (fun z => ?_)
      rw [f2, wb_shr (by omega) (by omega), pk_lLE (by omega) (Nat.lt_of_le_of_lt (Nat.div_le_self _ _) (by omega))] at z
      exact hR _ _ B (Or.inr ⟨f1, f2, p, p1, p2⟩) (Nat.le_refl _) (fun p' h1 h2 => tg_prune hg hd (by rw [tg_wd_c h2]; omega))
theorem xx_fm {post : SX → Prop} {r : Nat} (hn : n ≤ 7) (hc : ∀ i, ce i = nI (c i)) (h4 : ∀ i, c i < 4) (ha : ga < 2) (hs : ∀ a b, a < n → b < n → tg_g c ga a b = tg_g c ga b a) (hob : ∀ v, v < n → ∃ s, tg_Ly n (tg_g c ga) (tg_g c ga) s ∧ ob v = nI (s v))
    (IHr : ∀ r', r = r' + 1 → tg_FN post n ga gb fp c ce pX pY cl fr mk cX nY im ob r') : tg_FN post n ga gb fp c ce pX pY cl fr mk cX nY im ob r := by
  have hg : ∀ a b, tg_g c ga a b < 4 := fun a b => h4 _
  intro m
  induction m with
  | zero =>
    intro d s fu j L B q fb fh pl nP wo lr h1 h2 h3 h5 h6 h7 h8 h9 h10 h11 h12 h13 h14 miss
    obtain ⟨fu, rfl⟩ : ∃ q, fu = q + 1 := ⟨fu - 1, by omega⟩
    have hL : L < 2 ^ 62 := by
      obtain ⟨u, _, _, e⟩ := h12
      rw [← e]; exact tg_row_62 hg q u (by omega)
    refine br_f (nI_ge (b := 60000) (by omega) (by decide)) (br_f (nI_pos (by omega)) (xx_nc hn (by omega) h6 hc h4 ha hs hob hL h10 h9 h8 (fun z => br_f (by decide) (nm_e (nm_r (nI_1 s) (miss (s + 1) fu B fb fh pl nP wo lr (by omega) (by omega) h13 (Nat.le_refl _) ?_ (fun i _ => ⟨rfl, rfl, rfl⟩) (fun i _ => rfl))))) (fun v v1 v2 v3 v4 v5 => ?_)))
    · refine tg_fin (tg_CV n (tg_g c ga) d q) hg (by omega) (fun k hk => (h6.1 k hk).2) h11 h12 (fun v _ _ z => z) (fun v v1 v2 v3 v4 => ?_)
      rcases Nat.lt_or_ge v j with y | y
      · exact h14 v y v1 v2 v3 v4
      · exact absurd (z v y v1 v2 v3) v4
    · exfalso
      have := tg_cn_pos (P := fun v => j ≤ v ∧ tg_NP d q v) v2 ⟨v1, v3⟩
      omega
  | succ m ih =>
    intro d s fu j L B q fb fh pl nP wo lr h1 h2 h3 h5 h6 h7 h8 h9 h10 h11 h12 h13 h14 miss
    obtain ⟨fu, rfl⟩ : ∃ q, fu = q + 1 := ⟨fu - 1, by omega⟩
    rw [Nat.add_mul, Nat.one_mul] at h3
    have hL : L < 2 ^ 62 := by
      obtain ⟨u, _, _, e⟩ := h12
      rw [← e]; exact tg_row_62 hg q u (by omega)
    have hL2 : L < 2 ^ (2 * (d + 1)) := by
      obtain ⟨u, _, _, e⟩ := h12
      rw [← e]; exact tg_row_lt hg q u d
    refine br_f (nI_ge (b := 60000) (by omega) (by decide)) (br_f (nI_pos (by omega)) (xx_nc hn (by omega) h6 hc h4 ha hs hob hL h10 h9 h8 (fun z => br_f (by decide) (nm_e (nm_r (nI_1 s) (miss (s + 1) fu B fb fh pl nP wo lr (by omega) (by rw [Nat.add_mul, Nat.one_mul]; omega) h13 (Nat.le_refl _) ?_ (fun i _ => ⟨rfl, rfl, rfl⟩) (fun i _ => rfl))))) (fun v v1 v2 v3 v4 v5 => br_t (nI_pos' (by omega)) ⟨vp_in_nI (by omega) (by decide), ?_⟩)))
    · refine tg_fin (tg_CV n (tg_g c ga) d q) hg (by omega) (fun k hk => (h6.1 k hk).2) h11 h12 (fun v _ _ z => z) (fun v v1 v2 v3 v4 => ?_)
      rcases Nat.lt_or_ge v j with y | y
      · exact h14 v y v1 v2 v3 v4
      · exact absurd (z v y v1 v2 v3) v4
    · have hcm : tg_cn (fun u => v + 1 ≤ u ∧ tg_NP d q u) n ≤ m := by
        have := tg_cn_lt (P := fun u => v + 1 ≤ u ∧ tg_NP d q u) (Q := fun u => j ≤ u ∧ tg_NP d q u) v2 (fun z => absurd z.1 (by omega)) ⟨v1, v3⟩ (fun k _ z => ⟨by have := z.1; omega, z.2⟩)
        omega
      have e0 : ∀ i, i < d → tg_up q d v i = q i := fun i hi => tg_up_n (by omega)
      have ewd : tg_wd (tg_g c ga) (tg_up q d v) (d + 1) = tg_wd (tg_g c ga) q d * 2 ^ (2 * (d + 1)) + L := by
        show tg_wd (tg_g c ga) (tg_up q d v) d * 2 ^ (2 * (d + 1)) + tg_row (tg_g c ga) (tg_up q d v) (tg_up q d v d) d = _
        rw [tg_wd_c e0, tg_up_s, tg_row_c e0, v4]
      have hpl' := tg_PL_s h6 v2 v3
      -- back at this depth, v is done
      have back : ∀ (s' fu' B' : Nat) (fb' : Int64) (fh' : Int32) (pl' nP' : Nat → Int32) (wo' lr' : Nat → Int64), fu' + s' = 60001 → s' ≤ s + 1 + tg_TF r → tg_BB n (tg_g c ga) fb' fh' B' → B' ≤ B → (∀ p, tg_IP n p → (∀ k, k < d + 1 → p k = tg_up q d v k) → B' ≤ tg_wd (tg_g c ga) p n) → (∀ i, i < d → pl' i = pl i ∧ nP' i = nP i ∧ lr' i = lr i) → nP' d = nI (v + 1) → lr' d = lN L → (∀ i, i ≤ d → wo' i = wo i) → wX_searchForm_16 post fu' (nI d) (nI s') (nI n) (nI ga) (nI gb) fp fb' fh' ce pX pY cl fr mk cX nY im pl' nP' wo' lr' ob := fun s' fu' B' fb' fh' pl' nP' wo' lr' a1 a2 a3 a4 a5 a6 a7 a8 a9 => by
        refine ih d s' fu' (v + 1) L B' q fb' fh' pl' nP' wo' lr' h1 hcm (by omega) a1 ⟨fun k hk => by rw [(a6 k hk).1]; exact h6.1 k hk, h6.2⟩ (by rw [a9 d (Nat.le_refl _)]; exact h7) a7 (by omega) a8 h11 h12 a3 (fun u u1 u2 u3 u4 u5 p p1 p2 p3 => ?_) (fun s2 fu2 B2 fb2 fh2 pl2 nP2 wo2 lr2 b1 b2 b3 b4 b5 b6 b7 => ?_)
        · by_cases y : u = v
          · subst y
            refine a5 p p1 (fun k hk => ?_)
            by_cases w : k = d
            · subst w; rw [tg_up_s]; exact p3
            · rw [tg_up_n w]; exact p2 k (by omega)
          · rcases Nat.lt_or_ge u j with w | w
            · exact Nat.le_trans a4 (h14 u w u2 u3 u4 u5 p p1 p2 p3)
            · exact absurd (v5 u w (by omega) u3 u4) u5
        · refine miss s2 fu2 B2 fb2 fh2 pl2 nP2 wo2 lr2 b1 (by rw [Nat.add_mul, Nat.one_mul]; omega) b3 (by omega) b5 (fun i hi => ?_) (fun i hi => ?_)
          · obtain ⟨c1, c2, c3⟩ := b6 i hi
            obtain ⟨d1, d2, d3⟩ := a6 i hi
            exact ⟨c1.trans d1, c2.trans d2, c3.trans d3⟩
          · rw [b7 i hi]; exact a9 i hi
      rw [nI_clamp (n := d) (by omega)]
      refine nm_e ⟨vp_in_nI (by omega) (by decide), nm_r (by rw [nI_1]) ⟨vp_in_nI (by omega) (by decide), vp_in_nI (by omega) (by decide), ?_⟩⟩
      rw [h7, h10, xx_wrd (by omega) (tg_wd_lt hg q d) hL2, ← ewd, nI_1 d, nI_clamp (n := d + 1) (by omega)]
      refine ⟨vp_in_nI (by omega) (by decide), nm_e (xx_go (q := tg_up q d v) hn (by omega) hpl' hc h4 ha pk_uLs h13 (fun fb' fh' B' b1 b2 b3 => nm_r (nI_1 s) ?_) (fun hlt L' l1 l2 => nm_r (nI_1 s) ?_))⟩
      · rw [nI_pred]
        exact back (s + 1) fu B' fb' fh' _ _ _ _ (by omega) (by omega) b1 b2 b3 (fun i hi => ⟨pk_un (by omega), pk_un (by omega), rfl⟩) pk_us h10 (fun i hi => pk_uLn (by omega))
      · obtain ⟨r', rfl⟩ : ∃ r', r = r' + 1 := ⟨r - 1, by omega⟩
        have hTF : tg_TF (r' + 1) = 1 + (r' + 1) * (1 + tg_TF r') := rfl
        have hfree := tg_PL_free (d + 1) hpl'
        have hcn : tg_cn (fun u => 0 ≤ u ∧ tg_NP (d + 1) (tg_up q d v) u) n ≤ r' + 1 := by
          have := tg_cn_eq (P := fun u => 0 ≤ u ∧ tg_NP (d + 1) (tg_up q d v) u) (Q := tg_NP (d + 1) (tg_up q d v)) (n := n) (fun u _ => ⟨fun z => z.2, fun z => ⟨Nat.zero_le _, z⟩⟩)
          omega
        refine IHr r' rfl (r' + 1) (d + 1) (s + 1) fu 0 L' B (tg_up q d v) fb fh _ _ _ _ (by omega) hcn (by omega) (by omega) hpl' pk_uLs pk_us (by omega) pk_uLs l1 l2 h13 (fun u hu => absurd hu (by omega)) (fun s2 fu2 B2 fb2 fh2 pl2 nP2 wo2 lr2 b1 b2 b3 b4 b5 b6 b7 => ?_)
        rw [pk_m1]
        refine back s2 fu2 B2 fb2 fh2 pl2 nP2 wo2 lr2 b1 (by omega) b3 b4 b5 (fun i hi => ?_) ?_ ?_ (fun i hi => ?_)
        · obtain ⟨c1, c2, c3⟩ := b6 i (by omega)
          exact ⟨by rw [c1]; exact pk_un (by omega), by rw [c2, pk_un (by omega)]; exact pk_un (by omega), by rw [c3]; exact pk_uLn (by omega)⟩
        · rw [(b6 d (by omega)).2.1, pk_un (by omega)]; exact pk_us
        · rw [(b6 d (by omega)).2.2, pk_uLn (by omega)]; exact h10
        · rw [b7 i (by omega)]; exact pk_uLn (by omega)
theorem xx_fn {post : SX → Prop} (hn : n ≤ 7) (hc : ∀ i, ce i = nI (c i)) (h4 : ∀ i, c i < 4) (ha : ga < 2) (hs : ∀ a b, a < n → b < n → tg_g c ga a b = tg_g c ga b a) (hob : ∀ v, v < n → ∃ s, tg_Ly n (tg_g c ga) (tg_g c ga) s ∧ ob v = nI (s v)) :
    ∀ r, tg_FN post n ga gb fp c ce pX pY cl fr mk cX nY im ob r
  | 0 => xx_fm hn hc h4 ha hs hob (fun r' e => absurd e (by omega))
  | r + 1 => xx_fm hn hc h4 ha hs hob (fun r' e => by
    obtain rfl : r = r' := by omega
    exact xx_fn hn hc h4 ha hs hob r)
theorem xx_sf {post : SX → Prop} (hn0 : 1 ≤ n) (hn : n ≤ 7) (hc : ∀ i, ce i = nI (c i)) (h4 : ∀ i, c i < 4) (ha : ga < 2) (hs : ∀ a b, a < n → b < n → tg_g c ga a b = tg_g c ga b a) (hob : ∀ v, v < n → ∃ s, tg_Ly n (tg_g c ga) (tg_g c ga) s ∧ ob v = nI (s v))
    (hJ : ∀ (B : Nat) (fh : Int32) (pl nP : Nat → Int32) (wo lr : Nat → Int64), (∃ p, tg_IP n p ∧ tg_wd (tg_g c ga) p n = B) → (∀ p, tg_IP n p → B ≤ tg_wd (tg_g c ga) p n) → post (nI n, nI ga, nI gb, fp, lN B, fh, ce, pX, pY, cl, fr, mk, cX, nY, im, pl, nP, wo, lr, ob)) : wpX_searchForm post (nI n, nI ga, nI gb, fp, 0, 0, ce, pX, pY, cl, fr, mk, cX, nY, im, pl, nP, wo, lr, ob) := by
  have hg : ∀ a b, tg_g c ga a b < 4 := fun a b => h4 _
  have hpl : tg_PL n 0 pl (fun i => i) := ⟨fun k hk => absurd hk (by omega), fun j k _ hk => absurd hk (by omega)⟩
  unfold wpX_searchForm
  refine nm_e (xx_ef (d := 0) (q := fun i => i) hn (by omega) hpl hc h4 ha ⟨0, by omega, fun k hk => absurd hk (by omega)⟩ (fun L l1 l2 => ⟨60001, ?_⟩))
  have hT := tg_TF7 n hn
  obtain ⟨r, rfl⟩ : ∃ r, n = r + 1 := ⟨n - 1, by omega⟩
  have hTF : tg_TF (r + 1) = 1 + (r + 1) * (1 + tg_TF r) := rfl
  refine xx_fn hn hc h4 ha hs hob r (r + 1) 0 0 60001 0 L (2 ^ 60) (fun i => i) 0 0 pl _ _ _ (by omega) (tg_cn_le _ _) (by omega) (by omega) hpl pk_uLs pk_us (by omega) pk_uLs l1 l2 (Or.inl ⟨rfl, rfl⟩) (fun v hv => absurd hv (by omega)) (fun s' fu' B' fb' fh' pl' nP' wo' lr' b1 b2 b3 b4 b5 b6 b7 => ?_)
  obtain ⟨fu, rfl⟩ : ∃ q, fu' = q + 1 := ⟨fu' - 1, by omega⟩
  have all : ∀ p, tg_IP (r + 1) p → B' ≤ tg_wd (tg_g c ga) p (r + 1) := fun p hp => b5 p hp (fun k hk => absurd hk (by omega))
  have w := all _ (tg_IPid (r + 1))
  have w2 := tg_wd_56 hg (fun i => i) hn
  rcases b3 with ⟨_, e⟩ | ⟨_, e, hp⟩
  · omega
  · subst e
    exact br_c (fun _ => hJ B' fh' pl' nP' wo' lr' hp all) (fun _ => br_t xx_neg (hJ B' fh' pl' nP' wo' lr' hp all))
theorem xx_lf21 {post : Int64 → SX → Prop} {g : Nat} (hn0 : 1 ≤ n) (hn : n ≤ 7) (hc : ∀ i, ce i = nI (c i)) (h4 : ∀ i, c i < 4) (ha : g < 2) (hs : ∀ a b, a < n → b < n → tg_g c g a b = tg_g c g b a)
    (hJ : ∀ (B : Nat) (gX gY fp : Int32) (fb : Int64) (fh : Int32) (pX pY cl fr : Nat → Int32) (mk : Nat → Int64) (cX nY im pl nP : Nat → Int32) (wo lr : Nat → Int64) (ob : Nat → Int32), (∃ p, tg_IP n p ∧ tg_wd (tg_g c g) p n = B) → (∀ p, tg_IP n p → B ≤ tg_wd (tg_g c g) p n) → post (lN B) (nI n, gX, gY, fp, fb, fh, ce, pX, pY, cl, fr, mk, cX, nY, im, pl, nP, wo, lr, ob)) :
    ∀ (m a fu : Nat) (fp : Int32) (pX pY cl fr : Nat → Int32) (mk : Nat → Int64) (cX nY im ob : Nat → Int32), a + m = n → m < fu → (∀ v, v < a → ∃ s, tg_Ly n (tg_g c g) (tg_g c g) s ∧ ob v = nI (s v)) → wX_leastForm_21 post fu (nI a) (nI n) (nI g) (nI g) fp fb fh ce pX pY cl fr mk cX nY im pl nP wo lr ob := by
  intro m
  induction m with
  | zero =>
    intro a fu fp pX pY cl fr mk cX nY im ob h1 h2 h3
    obtain ⟨fu, rfl⟩ : ∃ q, fu = q + 1 := ⟨fu - 1, by omega⟩
    exact br_t (nI_le (by omega) (by omega)) (xx_sf hn0 hn hc h4 ha hs (fun v hv => h3 v (by omega)) (fun B fh pl nP wo lr p1 p2 => hJ B (nI g) (nI g) fp (lN B) fh pX pY cl fr mk cX nY im pl nP wo lr ob p1 p2))
  | succ m ih =>
    intro a fu fp pX pY cl fr mk cX nY im ob h1 h2 h3
    obtain ⟨fu, rfl⟩ : ∃ q, fu = q + 1 := ⟨fu - 1, by omega⟩
    refine br_f (nI_ge (by omega) (by omega)) (xx_lp (np := 0) (px := fun i => i) (py := fun i => i) hn (by omega) (by omega) (tg_PN_0 _ _ _ _ _) (fun j hj => absurd hj (by omega)) hc h4 ha ha (fun z => absurd ⟨fun i => i, tg_Ly_id n _, fun k hk => absurd hk (by omega)⟩ z) (fun b b1 _ b2 _ pX pY cl fr mk cX nY im _ => ⟨vp_in_nI (by omega) (by decide), ?_⟩))
    rw [nI_clamp (by omega)]
    refine nm_e (nm_r (nI_1 a) (ih (a + 1) fu _ pX pY cl fr mk cX nY im _ (by omega) (by omega) (fun v hv => ?_)))
    by_cases y : v = a
    · subst y
      obtain ⟨f, f1, f2⟩ := b2
      exact ⟨f, f1.1, by rw [pk_us, f2]⟩
    · rw [pk_un y]; exact h3 v (by omega)
theorem xx_lf {post : Int64 → SX → Prop} {g : Nat} (hn0 : 1 ≤ n) (hn : n ≤ 7) (hc : ∀ i, ce i = nI (c i)) (h4 : ∀ i, c i < 4) (ha : g < 2) (hs : ∀ a b, a < n → b < n → tg_g c g a b = tg_g c g b a)
    (hJ : ∀ (B : Nat) (gX gY fp : Int32) (fb : Int64) (fh : Int32) (pX pY cl fr : Nat → Int32) (mk : Nat → Int64) (cX nY im pl nP : Nat → Int32) (wo lr : Nat → Int64) (ob : Nat → Int32), (∃ p, tg_IP n p ∧ tg_wd (tg_g c g) p n = B) → (∀ p, tg_IP n p → B ≤ tg_wd (tg_g c g) p n) → post (lN B) (nI n, gX, gY, fp, fb, fh, ce, pX, pY, cl, fr, mk, cX, nY, im, pl, nP, wo, lr, ob)) : wpX_leastForm post (nI n, gX, gY, fp, fb, fh, ce, pX, pY, cl, fr, mk, cX, nY, im, pl, nP, wo, lr, ob) (nI g) := by
  unfold wpX_leastForm wpX_aim
  refine br_f (nI_pos (by omega)) (br_t (nI_le (b := 1) (by omega) (by decide)) ⟨n + 1, ?_⟩)
  exact xx_lf21 hn0 hn hc h4 ha hs hJ n 0 (n + 1) 0 pX pY cl fr mk cX nY im ob (by omega) (by omega) (fun v hv => absurd hv (by omega))
end
end
section
/-! the reference: start, next, lays -/
def tg_OR (n : Nat) (ord : Nat → Int32) (p : Nat → Nat) : Prop := ∀ k, k < n → ord k = nI (p k)
theorem yy_m2 {n : Nat} (h : 1 ≤ n) : nI n - 2 = nI (n - 1) + (-1) := by
  obtain ⟨k, rfl⟩ : ∃ k, n = k + 1 := ⟨n - 1, by omega⟩
  rw [← nI_1, show k + 1 - 1 = k by omega, show (2 : Int32) = 1 + 1 from rfl, ← Int32.sub_sub, Int32.add_sub_cancel, xx_s1]
theorem yy_m1 {n : Nat} (h : 1 ≤ n) : nI n - 1 = nI (n - 1) := by
  obtain ⟨k, rfl⟩ : ∃ k, n = k + 1 := ⟨n - 1, by omega⟩
  rw [nI_pred, show k + 1 - 1 = k by omega]
section
variable {n : Nat} {ce : Nat → Int32} {c : Nat → Nat}
theorem yy_ptT {ord : Nat → Int32} {post : Int32 → Prop} {a : Nat} (hn : n ≤ 7) (ha : a < n) (h : post 1) : wpY_point post (nI n, ce, ord) (nI a) :=
  br_f (nI_pos (by omega)) (br_f (nI_ge ha (by omega)) h)
theorem yy_ptF {ord : Nat → Int32} {post : Int32 → Prop} {x : Int32} (hx : x < 0 ∨ nI n ≤ x) (h : post 0) : wpY_point post (nI n, ce, ord) x := by
  by_cases z : x < 0
  · exact br_t z h
  · exact br_f z (br_t (hx.resolve_left z) h)
theorem yy_grT {post : Int32 → Prop} {g : Nat} (hg : g < 2) (h : post 1) : wpY_isGraph post (nI g) := by
  unfold wpY_isGraph
  exact pk_eq g 0 (fun _ => h) (fun e => pk_eq g 1 (fun _ => h) (fun e2 => by omega))
theorem yy_grF {post : Int32 → Prop} {x : Int32} (hx : x < 0 ∨ nI 2 ≤ x) (h : post 0) : wpY_isGraph post x := by
  unfold wpY_isGraph
  refine br_f (fun e => ?_) (br_f (fun e => ?_) h)
  · subst e; exact absurd hx (by decide)
  · subst e; exact absurd hx (by decide)
theorem yy_at {ord : Nat → Int32} {post : Int32 → Prop} {g u v : Nat} (hc : ∀ i, ce i = nI (c i)) (hg : g < 2) (hu : u < 7) (hv : v < 7) (h : post (nI (tg_g c g u v))) : wpY_at post (nI n, ce, ord) (nI g) (nI u) (nI v) := by
  unfold wpY_at
  refine ⟨pk_in _ 98 (by omega) (xx_ix g u v), ?_⟩
  rw [pk_cl _ (xx_ix g u v), hc]
  exact h
theorem yy_st2 {post : SY → Prop} (hJ : ∀ ord, (∀ k, k < 7 → ord k = nI k) → post (nI n, ce, ord)) : ∀ (m a fu : Nat) (ord : Nat → Int32), a + m = 7 → m < fu → (∀ k, k < a → ord k = nI k) → wY_start_2 post (nI n) fu (nI a) ce ord := by
  intro m
  induction m with
  | zero =>
    intro a fu ord h1 h2 h3
    obtain ⟨fu, rfl⟩ : ∃ q, fu = q + 1 := ⟨fu - 1, by omega⟩
    exact br_t (nI_le (a := 7) (by omega) (by omega)) (hJ ord (fun k hk => h3 k (by omega)))
  | succ m ih =>
    intro a fu ord h1 h2 h3
    obtain ⟨fu, rfl⟩ : ∃ q, fu = q + 1 := ⟨fu - 1, by omega⟩
    refine br_f (nI_ge (b := 7) (by omega) (by decide)) ⟨vp_in_nI (by omega) (by decide), ?_⟩
    rw [nI_clamp (by omega)]
    refine nm_e (nm_r (nI_1 a) (ih (a + 1) fu _ (by omega) (by omega) (fun k hk => ?_)))
    by_cases y : k = a
    · subst y; exact pk_us
    · rw [pk_un y]; exact h3 k (by omega)
theorem yy_st {ord : Nat → Int32} {post : SY → Prop} (hn : n ≤ 7) (hJ : ∀ ord, tg_OR n ord (fun i => i) → post (nI n, ce, ord)) : wpY_start post (nI n, ce, ord) := by
  unfold wpY_start
  exact ⟨8, yy_st2 (fun ord h => hJ ord (fun k hk => h k (by omega))) 7 0 8 ord (by omega) (by omega) (fun k hk => absurd hk (by omega))⟩
/-! next -/
def tg_rho (n i lo hi k : Nat) : Nat := if (i < k ∧ k < lo) ∨ hi < k then i + n - k else k
theorem yy_nx112 {post : Int32 → SY → Prop} {i : Nat} {p2 : Nat → Nat} (hn : n ≤ 7) (hJ : ∀ ord, (∀ k, k < n → ord k = nI (p2 (if i < k then i + n - k else k))) → post 1 (nI n, ce, ord)) :
    ∀ (m lo hi fu : Nat) (ord : Nat → Int32), lo + hi = i + n → i < lo → hi < n → hi ≤ lo + m → m < fu → lo ≤ hi + 1 → (∀ k, k < n → ord k = nI (p2 (tg_rho n i lo hi k))) → wY_next_112 post (nI n) fu (nI lo) (nI hi) ce ord := by
  intro m
  induction m with
  | zero =>
    intro lo hi fu ord h1 h2 h3 h4 h5 h6 h7
    obtain ⟨fu, rfl⟩ : ∃ q, fu = q + 1 := ⟨fu - 1, by omega⟩
    refine br_t (nI_le (by omega) (by omega)) (hJ ord (fun k hk => ?_))
    rw [h7 k hk]
    unfold tg_rho
    by_cases a : i < k
    · rw [if_pos a]
      by_cases b : (i < k ∧ k < lo) ∨ hi < k
      · rw [if_pos b]
      · rw [if_neg b, show i + n - k = k by omega]
    · rw [if_neg a, if_neg (by omega)]
  | succ m ih =>
    intro lo hi fu ord h1 h2 h3 h4 h5 h6 h7
    obtain ⟨fu, rfl⟩ : ∃ q, fu = q + 1 := ⟨fu - 1, by omega⟩
    by_cases z : hi ≤ lo
    · refine br_t (nI_le z (by omega)) (hJ ord (fun k hk => ?_))
      rw [h7 k hk]
      unfold tg_rho
      by_cases a : i < k
      · rw [if_pos a]
        by_cases b : (i < k ∧ k < lo) ∨ hi < k
        · rw [if_pos b]
        · rw [if_neg b, show i + n - k = k by omega]
      · rw [if_neg a, if_neg (by omega)]
    · refine br_f (nI_ge (by omega) (by omega)) ⟨vp_in_nI (by omega) (by decide), ?_⟩
      rw [nI_clamp (n := lo) (by omega), nI_clamp (n := hi) (by omega)]
      obtain ⟨hj, rfl⟩ : ∃ hj, hi = hj + 1 := ⟨hi - 1, by omega⟩
      refine nm_e ⟨vp_in_nI (by omega) (by decide), vp_in_nI (by omega) (by decide), nm_e ⟨vp_in_nI (by omega) (by decide), nm_e (nm_r (nI_1 lo) (nm_r (pk_m1 hj) (ih (lo + 1) hj fu _ (by omega) (by omega) (by omega) (by omega) (by omega) (by omega) (fun k hk => ?_))))⟩⟩
      by_cases y : k = hj + 1
      · subst y
        rw [pk_us, h7 lo (by omega)]
        unfold tg_rho
        rw [if_neg (by omega), if_pos (by omega), show i + n - (hj + 1) = lo by omega]
      · rw [pk_un y]
        by_cases x : k = lo
        · subst x
          rw [pk_us, h7 (hj + 1) (by omega)]
          unfold tg_rho
          rw [if_neg (by omega), if_pos (by omega), show i + n - k = hj + 1 by omega]
        · rw [pk_un x, h7 k hk]
          unfold tg_rho
          by_cases b : (i < k ∧ k < lo) ∨ hj + 1 < k
          · rw [if_pos b, if_pos (by omega)]
          · rw [if_neg b, if_neg (by omega)]
theorem yy_nx73 {post : Int32 → SY → Prop} {ord : Nat → Int32} {i j : Nat} {p : Nat → Nat} (hn : n ≤ 7) (hij : i < j) (hj : j < n) (hp : tg_IP n p) (ho : tg_OR n ord p) (hd : ∀ k, i + 1 ≤ k → k + 1 < n → p (k + 1) < p k) (hl : p i < p j) (hr : ∀ k, j < k → k < n → p k < p i)
    (h1 : ∀ (ord : Nat → Int32) (p' : Nat → Nat), tg_OR n ord p' → tg_IP n p' → tg_rk n p' n = tg_rk n p n + 1 → post 1 (nI n, ce, ord)) : wY_next_73 post (nI i) (nI j) (nI n) ce ord := by
  unfold wY_next_73
  refine ⟨vp_in_nI (by omega) (by decide), ?_⟩
  rw [nI_clamp (n := i) (by omega), nI_clamp (n := j) (by omega)]
  refine nm_e ⟨vp_in_nI (by omega) (by decide), vp_in_nI (by omega) (by decide), nm_e ⟨vp_in_nI (by omega) (by decide), nm_e (nm_r (nI_1 i) (nm_r (yy_m1 (by omega)) ⟨n + 1, ?_⟩))⟩⟩
  refine yy_nx112 (i := i) (p2 := fun k => p (tg_sw i j k)) hn (fun ord' h => ?_) n (i + 1) (n - 1) (n + 1) _ (by omega) (by omega) (by omega) (by omega) (by omega) (by omega) (fun k hk => ?_)
  · have e : ∀ k, k < n → (fun k => p (tg_tau n i j k)) k = p (tg_tau n i j k) := fun _ _ => rfl
    obtain ⟨q1, q2⟩ := tg_next hp hij hj hd hl hr e
    refine h1 ord' (fun k => p (tg_tau n i j k)) (fun k hk => ?_) q1 q2
    rw [h k hk]
    refine congrArg nI ?_
    show p (tg_sw i j (if i < k then i + n - k else k)) = p (tg_tau n i j k)
    refine congrArg p ?_
    unfold tg_tau
    by_cases a : i < k
    · rw [if_pos a, if_neg (by omega), if_neg (by omega)]
      by_cases b : i + n - k = j
      · rw [if_pos b, b, tg_sw_r]
      · rw [if_neg b, tg_sw_n (by omega) b]
    · rw [if_neg a]
      by_cases b : k < i
      · rw [if_pos b, tg_sw_n (by omega) (by omega)]
      · rw [if_neg b]
        have : k = i := by omega
        subst this
        rw [if_pos rfl, tg_sw_l]
  · unfold tg_rho
    rw [if_neg (by omega)]
    by_cases y : k = j
    · subst y; rw [pk_us, tg_sw_r]; exact ho i (by omega)
    · rw [pk_un y]
      by_cases x : k = i
      · subst x; rw [pk_us, tg_sw_l]; exact ho j hj
      · rw [pk_un x, tg_sw_n x y]; exact ho k hk
theorem yy_nx47 {post : Int32 → SY → Prop} {ord : Nat → Int32} {i : Nat} {p : Nat → Nat} (hn : n ≤ 7) (hi : i + 1 < n) (hp : tg_IP n p) (ho : tg_OR n ord p) (hd : ∀ k, i + 1 ≤ k → k + 1 < n → p (k + 1) < p k) (hl : p i < p (i + 1))
    (h1 : ∀ (ord : Nat → Int32) (p' : Nat → Nat), tg_OR n ord p' → tg_IP n p' → tg_rk n p' n = tg_rk n p n + 1 → post 1 (nI n, ce, ord)) : ∀ (m j fu : Nat), j = i + 1 + m → j < n → m < fu → (∀ k, j < k → k < n → p k < p i) → wY_next_47 post (nI i) (nI n) ce ord fu (nI j) := by
  intro m
  induction m with
  | zero =>
    intro j fu a1 a2 a3 a4
    obtain ⟨fu, rfl⟩ : ∃ q, fu = q + 1 := ⟨fu - 1, by omega⟩
    subst a1
    have b1 := hp.1 i (by omega)
    have b2 := hp.1 (i + 1 + 0) (by omega)
    refine br_f (nI_ge (by omega) (by omega)) ⟨vp_in_nI (by omega) (by decide), vp_in_nI (by omega) (by decide), ?_⟩
    rw [nI_clamp (n := i) (by omega), nI_clamp (n := i + 1 + 0) (by omega), ho i (by omega), ho (i + 1 + 0) (by omega)]
    exact pk_le (p i) (p (i + 1 + 0)) (fun _ => yy_nx73 hn (by omega) (by omega) hp ho hd hl a4 h1) (fun z => absurd hl (Nat.not_lt.mpr (Nat.le_of_lt z)))
  | succ m ih =>
    intro j fu a1 a2 a3 a4
    obtain ⟨fu, rfl⟩ : ∃ q, fu = q + 1 := ⟨fu - 1, by omega⟩
    have b1 := hp.1 i (by omega)
    have b2 := hp.1 j (by omega)
    refine br_f (nI_ge (by omega) (by omega)) ⟨vp_in_nI (by omega) (by decide), vp_in_nI (by omega) (by decide), ?_⟩
    rw [nI_clamp (n := i) (by omega), nI_clamp (n := j) (by omega), ho i (by omega), ho j (by omega)]
    refine pk_le (p i) (p j) (fun z => yy_nx73 hn (by omega) (by omega) hp ho hd ?_ a4 h1) (fun z => ?_)
    · rcases Nat.lt_or_ge (p i) (p j) with y | y
      · exact y
      · have := hp.2 i j (by omega) (by omega) (by omega)
        omega
    · obtain ⟨j', rfl⟩ : ∃ j', j = j' + 1 := ⟨j - 1, by omega⟩
      refine nm_r (pk_m1 j') (ih j' fu (by omega) (by omega) (by omega) (fun k k1 k2 => ?_))
      by_cases y : k = j' + 1
      · subst y; exact z
      · exact a4 k (by omega) k2
theorem yy_nx7 {post : Int32 → SY → Prop} {ord : Nat → Int32} {p : Nat → Nat} (hn : n ≤ 7) (hp : tg_IP n p) (ho : tg_OR n ord p)
    (h1 : ∀ (ord : Nat → Int32) (p' : Nat → Nat), tg_OR n ord p' → tg_IP n p' → tg_rk n p' n = tg_rk n p n + 1 → post 1 (nI n, ce, ord)) (h0 : tg_rk n p n + 1 = tg_fac n → post 0 (nI n, ce, ord)) : ∀ (u fu : Nat), u < n → u < fu → (∀ k, u ≤ k → k + 1 < n → p (k + 1) < p k) → wY_next_7 post (nI n) ce ord fu (nI u + (-1)) := by
  intro u
  induction u with
  | zero =>
    intro fu a1 a2 a3
    obtain ⟨fu, rfl⟩ : ∃ q, fu = q + 1 := ⟨fu - 1, by omega⟩
    refine br_t xx_neg ?_
    unfold wY_next_34
    exact br_f (by decide) (h0 (tg_last hp (fun k hk => a3 k (by omega) hk)))
  | succ w ih =>
    intro fu a1 a2 a3
    obtain ⟨fu, rfl⟩ : ∃ q, fu = q + 1 := ⟨fu - 1, by omega⟩
    have b1 := hp.1 w (by omega)
    have b2 := hp.1 (w + 1) (by omega)
    rw [pk_m1]
    refine br_f (nI_pos (by omega)) ⟨vp_in_nI (by omega) (by decide), ?_⟩
    rw [nI_1 w, nI_clamp (n := w) (by omega), nI_clamp (n := w + 1) (by omega), ho w (by omega), ho (w + 1) (by omega)]
    refine ⟨vp_in_nI (by omega) (by decide), pk_le (p w) (p (w + 1)) (fun z => ?_) (fun z => nm_e (ih fu (by omega) (by omega) (fun k k1 k2 => ?_)))⟩
    · have hl : p w < p (w + 1) := by
        rcases Nat.lt_or_ge (p w) (p (w + 1)) with y | y
        · exact y
        · have := hp.2 w (w + 1) (by omega) (by omega) (by omega)
          omega
      unfold wY_next_34
      exact br_t (nI_pos' (by omega)) (nm_r (yy_m1 (by omega)) ⟨n, yy_nx47 hn (by omega) hp ho (fun k k1 k2 => a3 k k1 k2) hl h1 (n - 1 - (w + 1)) (n - 1) n (by omega) (by omega) (by omega) (fun k k1 k2 => by omega)⟩)
    · by_cases y : k = w
      · subst y; exact z
      · exact a3 k (by omega) k2
theorem yy_nx {post : Int32 → SY → Prop} {ord : Nat → Int32} {p : Nat → Nat} (hn0 : 1 ≤ n) (hn : n ≤ 7) (hp : tg_IP n p) (ho : tg_OR n ord p)
    (h1 : ∀ (ord : Nat → Int32) (p' : Nat → Nat), tg_OR n ord p' → tg_IP n p' → tg_rk n p' n = tg_rk n p n + 1 → post 1 (nI n, ce, ord)) (h0 : tg_rk n p n + 1 = tg_fac n → post 0 (nI n, ce, ord)) : wpY_next post (nI n, ce, ord) := by
  unfold wpY_next
  exact nm_r (yy_m2 hn0) ⟨n, yy_nx7 hn hp ho h1 h0 (n - 1) n (by omega) (by omega) (fun k k1 k2 => by omega)⟩
/-! lays -/
theorem yy_ly13 {post : Int32 → Prop} {J2 : Int32 → Prop} {ord : Nat → Int32} {p : Nat → Nat} {g h a : Nat} (hn : n ≤ 7) (hp : tg_IP n p) (ho : tg_OR n ord p) (hc : ∀ i, ce i = nI (c i)) (h4 : ∀ i, c i < 4) (hg : g < 2) (hh : h < 2) (han : a < n)
    (hJ : (∀ b, b ≤ a → tg_g c g a b = tg_g c h (p a) (p b)) → J2 (nI (a + 1))) (h0 : (∃ b, b ≤ a ∧ tg_g c g a b ≠ tg_g c h (p a) (p b)) → post 0) :
    ∀ (m b fu : Nat), b + m = a + 1 → m < fu → (∀ z, z < b → tg_g c g a z = tg_g c h (p a) (p z)) → wY_lays_13 post J2 (nI g) (nI h) (nI a) (nI n) ce ord fu (nI b) := by
  intro m
  induction m with
  | zero =>
    intro b fu a1 a2 a3
    obtain ⟨fu, rfl⟩ : ∃ q, fu = q + 1 := ⟨fu - 1, by omega⟩
    exact br_t (nI_lt (by omega) (by omega)) (nm_r (nI_1 a) (hJ (fun z hz => a3 z (by omega))))
  | succ m ih =>
    intro b fu a1 a2 a3
    obtain ⟨fu, rfl⟩ : ∃ q, fu = q + 1 := ⟨fu - 1, by omega⟩
    have b1 := hp.1 a (by omega)
    have b2 := hp.1 b (by omega)
    have c1 : tg_g c g a b < 4 := h4 _
    have c2 : tg_g c h (p a) (p b) < 4 := h4 _
    refine br_f (nI_nlt (by omega) (by omega)) (yy_at hc hg (by omega) (by omega) ⟨vp_in_nI (by omega) (by decide), vp_in_nI (by omega) (by decide), ?_⟩)
    rw [nI_clamp (n := a) (by omega), nI_clamp (n := b) (by omega), ho a (by omega), ho b (by omega)]
    refine yy_at hc hh (by omega) (by omega) (pk_eq (tg_g c g a b) (tg_g c h (p a) (p b)) (fun e => nm_r (nI_1 b) (ih (b + 1) fu (by omega) (by omega) (fun z hz => ?_))) (fun e => h0 ⟨b, by omega, e⟩))
    by_cases y : z = b
    · subst y; exact e
    · exact a3 z (by omega)
theorem yy_ly2 {post : Int32 → Prop} {ord : Nat → Int32} {p : Nat → Nat} {g h : Nat} (hn : n ≤ 7) (hp : tg_IP n p) (ho : tg_OR n ord p) (hc : ∀ i, ce i = nI (c i)) (h4 : ∀ i, c i < 4) (hg : g < 2) (hh : h < 2)
    (h1 : (∀ a b, b ≤ a → a < n → tg_g c g a b = tg_g c h (p a) (p b)) → post 1) (h0 : (∃ a b, b ≤ a ∧ a < n ∧ tg_g c g a b ≠ tg_g c h (p a) (p b)) → post 0) :
    ∀ (m a fu : Nat), a + m = n → m < fu → (∀ z b, z < a → b ≤ z → tg_g c g z b = tg_g c h (p z) (p b)) → wY_lays_2 post (nI g) (nI h) (nI n) ce ord fu (nI a) := by
  intro m
  induction m with
  | zero =>
    intro a fu a1 a2 a3
    obtain ⟨fu, rfl⟩ : ∃ q, fu = q + 1 := ⟨fu - 1, by omega⟩
    exact br_t (nI_le (by omega) (by omega)) (h1 (fun z b hb hz => a3 z b (by omega) hb))
  | succ m ih =>
    intro a fu a1 a2 a3
    obtain ⟨fu, rfl⟩ : ∃ q, fu = q + 1 := ⟨fu - 1, by omega⟩
    refine br_f (nI_ge (by omega) (by omega)) ⟨a + 2, yy_ly13 hn hp ho hc h4 hg hh (by omega) (fun e => ih (a + 1) fu (by omega) (by omega) (fun z b hz hb => ?_)) (fun ⟨b, b1, b2⟩ => h0 ⟨a, b, b1, by omega, b2⟩) (a + 1) 0 (a + 2) (by omega) (by omega) (fun z hz => absurd hz (by omega))⟩
    by_cases y : z = a
    · subst y; exact e b hb
    · exact a3 z b (by omega) hb
theorem yy_ly {post : Int32 → Prop} {ord : Nat → Int32} {p : Nat → Nat} {g h : Nat} (hn : n ≤ 7) (hp : tg_IP n p) (ho : tg_OR n ord p) (hc : ∀ i, ce i = nI (c i)) (h4 : ∀ i, c i < 4) (hg : g < 2) (hh : h < 2) (hs : ∀ g, g < 2 → ∀ a b, a < n → b < n → tg_g c g a b = tg_g c g b a)
    (h1 : tg_Ly n (tg_g c g) (tg_g c h) p → post 1) (h0 : ¬ tg_Ly n (tg_g c g) (tg_g c h) p → post 0) : wpY_lays post (nI n, ce, ord) (nI g) (nI h) := by
  unfold wpY_lays
  refine ⟨n + 1, yy_ly2 hn hp ho hc h4 hg hh (fun e => h1 ⟨hp, fun a b ha hb => ?_⟩) (fun ⟨a, b, b1, b2, b3⟩ => h0 (fun z => b3 (z.2 a b b2 (by omega)))) n 0 (n + 1) (by omega) (by omega) (fun z b hz => absurd hz (by omega))⟩
  rcases Nat.le_total b a with y | y
  · exact e a b y ha
  · rw [hs g hg a b ha hb, hs h hh _ _ (hp.1 a ha) (hp.1 b hb)]; exact e b a y hb
end
end
section
/-! the reference's loops over all orders -/
theorem tg_Qb {n : Nat} {g h : Nat → Nat → Nat} {p : Nat → Nat} (hp : tg_IP n p) : (∃ q, tg_IP n q ∧ tg_rk n q n = tg_rk n p n ∧ tg_Ly n g h q) ↔ tg_Ly n g h p :=
  ⟨fun ⟨q, q1, q2, q3⟩ => tg_Ly_e (fun i hi => (tg_rk_inj q1 hp q2 i hi).symm) q3, fun z => ⟨p, hp, rfl, z⟩⟩
theorem yy_l4 (a b : Nat) : lN a * (4 : Int64) + lN b = lN (a * 4 + b) := by rw [show (4 : Int64) = lN 4 from rfl, lN_mul, lN_add]
section
variable {n : Nat} {ce : Nat → Int32} {c : Nat → Nat}
theorem yy_ct12 {post : Int32 → SY → Prop} {g h : Nat} (hn0 : 1 ≤ n) (hn : n ≤ 7) (hc : ∀ i, ce i = nI (c i)) (h4 : ∀ i, c i < 4) (hg : g < 2) (hh : h < 2) (hs : ∀ g, g < 2 → ∀ a b, a < n → b < n → tg_g c g a b = tg_g c g b a)
    (hJ : ∀ ord, post (nI (tg_nm n (tg_Ly n (tg_g c g) (tg_g c h)))) (nI n, ce, ord)) :
    ∀ (fu i : Nat) (ord : Nat → Int32) (p : Nat → Nat), tg_fac n < fu + i → tg_OR n ord p → tg_IP n p → tg_rk n p n = i → wY_count_12 post (nI g) (nI h) fu (nI (tg_cn (fun r => ∃ p, tg_IP n p ∧ tg_rk n p n = r ∧ tg_Ly n (tg_g c g) (tg_g c h) p) i)) 1 (nI i) (nI n) ce ord := by
  intro fu
  have f7 := tg_fac7 n (by omega)
  induction fu with
  | zero =>
    intro i ord p h1 h2 h3 h5
    have := tg_rk_lt h3 n (Nat.le_refl _)
    omega
  | succ fu ih =>
    intro i ord p h1 h2 h3 h5
    have hlt := tg_rk_lt h3 n (Nat.le_refl _)
    have nxt : ∀ X : Nat, X = tg_cn (fun r => ∃ p, tg_IP n p ∧ tg_rk n p n = r ∧ tg_Ly n (tg_g c g) (tg_g c h) p) (i + 1) → wY_count_37 post (wY_count_12 post (nI g) (nI h) fu) (nI g) (nI h) (nI X) (nI i) (nI n) ce ord := fun X hX => by
      unfold wY_count_37
      refine yy_nx hn0 hn h3 h2 (fun ord' p' q1 q2 q3 => nm_r (nI_1 i) ?_) (fun e => nm_r (nI_1 i) ?_)
      · rw [hX]
        exact ih (i + 1) ord' p' (by omega) q1 q2 (by omega)
      · obtain ⟨fu, rfl⟩ : ∃ q, fu = q + 1 := ⟨fu - 1, by omega⟩
        have e2 : X = tg_nm n (tg_Ly n (tg_g c g) (tg_g c h)) := by
          rw [hX, ← h5, e]; rfl
        rw [e2]
        exact br_c (fun _ => hJ ord) (fun _ => br_t rfl (hJ ord))
    refine br_f (nI_ge (b := 5040) (by omega) (by decide)) (br_f (by decide) (yy_ly hn h3 h2 hc h4 hg hh hs (fun z => br_f (by decide) (nm_r (nI_1 _) (nxt _ ?_))) (fun z => br_t rfl (nxt _ ?_))))
    · rw [tg_cn_s]
      subst h5
      rw [tg_bt (tg_Qb h3 |>.mpr z)]
    · rw [tg_cn_s]
      subst h5
      rw [tg_bf (fun y => z (tg_Qb h3 |>.mp y)), Nat.add_zero]
theorem yy_ct {post : Int32 → SY → Prop} {g h : Nat} {ord : Nat → Int32} (hn0 : 1 ≤ n) (hn : n ≤ 7) (hc : ∀ i, ce i = nI (c i)) (h4 : ∀ i, c i < 4) (hg : g < 2) (hh : h < 2) (hs : ∀ g, g < 2 → ∀ a b, a < n → b < n → tg_g c g a b = tg_g c g b a)
    (hJ : ∀ ord, post (nI (tg_nm n (tg_Ly n (tg_g c g) (tg_g c h)))) (nI n, ce, ord)) : wpY_count post (nI n, ce, ord) (nI g) (nI h) := by
  unfold wpY_count
  exact yy_st hn (fun ord' ho => ⟨tg_fac n + 1, yy_ct12 hn0 hn hc h4 hg hh hs hJ (tg_fac n + 1) 0 ord' (fun i => i) (by omega) ho (tg_IPid n) (tg_rk_id (fun _ _ => rfl) n (Nat.le_refl _))⟩)
theorem yy_ld18 {post : Int32 → SY → Prop} {a : Nat} (hn0 : 1 ≤ n) (hn : n ≤ 7) (ha : a < n) (hc : ∀ i, ce i = nI (c i)) (h4 : ∀ i, c i < 4) (hs : ∀ g, g < 2 → ∀ a b, a < n → b < n → tg_g c g a b = tg_g c g b a)
    (hF : ∀ ord p, tg_Ly n (tg_g c 0) (tg_g c 1) p → (∀ q, tg_Ly n (tg_g c 0) (tg_g c 1) q → tg_rk n p n ≤ tg_rk n q n) → post (nI (p a)) (nI n, ce, ord)) (hN : (¬ ∃ p, tg_Ly n (tg_g c 0) (tg_g c 1) p) → ∀ ord, post (-1) (nI n, ce, ord)) :
    ∀ (fu i : Nat) (ord : Nat → Int32) (p : Nat → Nat), tg_fac n < fu + i → tg_OR n ord p → tg_IP n p → tg_rk n p n = i → (∀ q, tg_Ly n (tg_g c 0) (tg_g c 1) q → i ≤ tg_rk n q n) → wY_laid_18 post (nI a) fu 1 (nI i) (nI n) ce ord := by
  intro fu
  have f7 := tg_fac7 n (by omega)
  induction fu with
  | zero =>
    intro i ord p h1 h2 h3 h5 h6
    have := tg_rk_lt h3 n (Nat.le_refl _)
    omega
  | succ fu ih =>
    intro i ord p h1 h2 h3 h5 h6
    have hlt := tg_rk_lt h3 n (Nat.le_refl _)
    refine br_f (nI_ge (b := 5040) (by omega) (by decide)) (br_f (by decide) (yy_ly (g := 0) (h := 1) hn h3 h2 hc h4 (by omega) (by omega) hs (fun z => br_f (by decide) ⟨vp_in_nI (by omega) (by decide), ?_⟩) (fun z => br_t rfl ?_)))
    · rw [nI_clamp (by omega), h2 a ha]
      exact hF ord p z (fun q hq => by have := h6 q hq; omega)
    · have h7 : ∀ q, tg_Ly n (tg_g c 0) (tg_g c 1) q → i + 1 ≤ tg_rk n q n := fun q hq => by
        have a1 := h6 q hq
        rcases Nat.lt_or_ge i (tg_rk n q n) with y | y
        · exact y
        · have e : tg_rk n q n = tg_rk n p n := by omega
          exact absurd (tg_Ly_e (fun k hk => (tg_rk_inj hq.1 h3 e k hk).symm) hq) z
      refine yy_nx hn0 hn h3 h2 (fun ord' p' q1 q2 q3 => nm_r (nI_1 i) (ih (i + 1) ord' p' (by omega) q1 q2 (by omega) h7)) (fun e => nm_r (nI_1 i) ?_)
      obtain ⟨fu, rfl⟩ : ∃ q, fu = q + 1 := ⟨fu - 1, by omega⟩
      have none : ¬ ∃ p, tg_Ly n (tg_g c 0) (tg_g c 1) p := fun ⟨q, hq⟩ => by
        have a1 := h7 q hq
        have a2 := tg_rk_lt hq.1 n (Nat.le_refl _)
        omega
      exact br_c (fun _ => hN none ord) (fun _ => br_t rfl (hN none ord))
theorem yy_cl45 {post : Int32 → SY → Prop} {a b a' b' : Nat} (hn0 : 1 ≤ n) (hn : n ≤ 7) (ha : a < n) (hb : b < n) (ha' : a' < n) (hb' : b' < n) (hc : ∀ i, ce i = nI (c i)) (h4 : ∀ i, c i < 4) (hs : ∀ g, g < 2 → ∀ a b, a < n → b < n → tg_g c g a b = tg_g c g b a)
    (hF : (∃ p, tg_Ly n (tg_g c 0) (tg_g c 1) p ∧ p a = b ∧ p a' = b') → ∀ ord, post 1 (nI n, ce, ord)) (hN : (¬ ∃ p, tg_Ly n (tg_g c 0) (tg_g c 1) p ∧ p a = b ∧ p a' = b') → ∀ ord, post 0 (nI n, ce, ord)) :
    ∀ (fu i : Nat) (ord : Nat → Int32) (p : Nat → Nat), tg_fac n < fu + i → tg_OR n ord p → tg_IP n p → tg_rk n p n = i → (∀ q, tg_Ly n (tg_g c 0) (tg_g c 1) q → q a = b → q a' = b' → i ≤ tg_rk n q n) → wY_canLay_45 post (nI a) (nI b) (nI a') (nI b') fu 1 (nI i) (nI n) ce ord := by
  intro fu
  have f7 := tg_fac7 n (by omega)
  induction fu with
  | zero =>
    intro i ord p h1 h2 h3 h5 h6
    have := tg_rk_lt h3 n (Nat.le_refl _)
    omega
  | succ fu ih =>
    intro i ord p h1 h2 h3 h5 h6
    have hlt := tg_rk_lt h3 n (Nat.le_refl _)
    have b1 := h3.1 a ha
    have b2 := h3.1 a' ha'
    have nxt : ¬ (tg_Ly n (tg_g c 0) (tg_g c 1) p ∧ p a = b ∧ p a' = b') → wY_canLay_90 post (wY_canLay_45 post (nI a) (nI b) (nI a') (nI b') fu) (nI a) (nI b) (nI a') (nI b') (nI i) (nI n) ce ord := fun z => by
      have h7 : ∀ q, tg_Ly n (tg_g c 0) (tg_g c 1) q → q a = b → q a' = b' → i + 1 ≤ tg_rk n q n := fun q hq e1 e2 => by
        have a1 := h6 q hq e1 e2
        rcases Nat.lt_or_ge i (tg_rk n q n) with y | y
        · exact y
        · have e : tg_rk n q n = tg_rk n p n := by omega
          have e3 := tg_rk_inj hq.1 h3 e
          exact absurd ⟨tg_Ly_e (fun k hk => (e3 k hk).symm) hq, by rw [← e3 a ha]; exact e1, by rw [← e3 a' ha']; exact e2⟩ z
      unfold wY_canLay_90
      refine yy_nx hn0 hn h3 h2 (fun ord' p' q1 q2 q3 => nm_r (nI_1 i) (ih (i + 1) ord' p' (by omega) q1 q2 (by omega) h7)) (fun e => nm_r (nI_1 i) ?_)
      obtain ⟨fu, rfl⟩ : ∃ q, fu = q + 1 := ⟨fu - 1, by omega⟩
      have none : ¬ ∃ p, tg_Ly n (tg_g c 0) (tg_g c 1) p ∧ p a = b ∧ p a' = b' := fun ⟨q, hq, e1, e2⟩ => by
        have a1 := h7 q hq e1 e2
        have a2 := tg_rk_lt hq.1 n (Nat.le_refl _)
        omega
      exact br_c (fun _ => hN none ord) (fun _ => br_t rfl (hN none ord))
    refine br_f (nI_ge (b := 5040) (by omega) (by decide)) (br_f (by decide) ⟨vp_in_nI (by omega) (by decide), ?_⟩)
    rw [nI_clamp (n := a) (by omega), h2 a ha]
    refine pk_eq (p a) b (fun e => ⟨vp_in_nI (by omega) (by decide), ?_⟩) (fun e => nxt (fun z => e z.2.1))
    rw [nI_clamp (n := a') (by omega), h2 a' ha']
    refine pk_eq (p a') b' (fun e' => ?_) (fun e' => nxt (fun z => e' z.2.2))
    exact yy_ly (g := 0) (h := 1) hn h3 h2 hc h4 (by omega) (by omega) hs (fun z => br_f (by decide) (hF ⟨p, z, e, e'⟩ ord)) (fun z => br_t rfl (nxt (fun y => z y.1)))
theorem yy_mr29 {post : Int32 → SY → Prop} {g a : Nat} (hn0 : 1 ≤ n) (hn : n ≤ 7) (hg : g < 2) (ha : a < n) (hc : ∀ i, ce i = nI (c i)) (h4 : ∀ i, c i < 4) (hs : ∀ g, g < 2 → ∀ a b, a < n → b < n → tg_g c g a b = tg_g c g b a)
    (hJ : ∀ l, (∃ f, tg_Ly n (tg_g c g) (tg_g c g) f ∧ f a = l) → (∀ f, tg_Ly n (tg_g c g) (tg_g c g) f → l ≤ f a) → ∀ ord, post (nI l) (nI n, ce, ord)) :
    ∀ (fu i l : Nat) (ord : Nat → Int32) (p : Nat → Nat), tg_fac n < fu + i → tg_OR n ord p → tg_IP n p → tg_rk n p n = i → (∃ f, tg_Ly n (tg_g c g) (tg_g c g) f ∧ f a = l) → (∀ f, tg_Ly n (tg_g c g) (tg_g c g) f → tg_rk n f n < i → l ≤ f a) → wY_mirror_29 post (nI g) (nI a) fu (nI l) 1 (nI i) (nI n) ce ord := by
  intro fu
  have f7 := tg_fac7 n (by omega)
  induction fu with
  | zero =>
    intro i l ord p h1 h2 h3 h5 h6 h7
    have := tg_rk_lt h3 n (Nat.le_refl _)
    omega
  | succ fu ih =>
    intro i l ord p h1 h2 h3 h5 h6 h7
    have hlt := tg_rk_lt h3 n (Nat.le_refl _)
    have b1 := h3.1 a ha
    have hl : l < n := by
      obtain ⟨f, f1, f2⟩ := h6
      rw [← f2]; exact f1.1.1 a ha
    have nxt : ∀ l', (∃ f, tg_Ly n (tg_g c g) (tg_g c g) f ∧ f a = l') → l' ≤ l → (tg_Ly n (tg_g c g) (tg_g c g) p → l' ≤ p a) → wY_mirror_68 post (wY_mirror_29 post (nI g) (nI a) fu) (nI g) (nI a) (nI l') (nI i) (nI n) ce ord := fun l' z1 z2 z3 => by
      have h8 : ∀ f, tg_Ly n (tg_g c g) (tg_g c g) f → tg_rk n f n < i + 1 → l' ≤ f a := fun f hf hr => by
        rcases Nat.lt_or_ge (tg_rk n f n) i with y | y
        · exact Nat.le_trans z2 (h7 f hf y)
        · have e : tg_rk n f n = tg_rk n p n := by omega
          have e3 := tg_rk_inj hf.1 h3 e
          rw [e3 a ha]
          exact z3 (tg_Ly_e (fun k hk => (e3 k hk).symm) hf)
      unfold wY_mirror_68
      refine yy_nx hn0 hn h3 h2 (fun ord' p' q1 q2 q3 => nm_r (nI_1 i) (ih (i + 1) l' ord' p' (by omega) q1 q2 (by omega) z1 h8)) (fun e => nm_r (nI_1 i) ?_)
      obtain ⟨fu, rfl⟩ : ∃ q, fu = q + 1 := ⟨fu - 1, by omega⟩
      have fin := hJ l' z1 (fun f hf => h8 f hf (by have := tg_rk_lt hf.1 n (Nat.le_refl _); omega)) ord
      exact br_c (fun _ => fin) (fun _ => br_t rfl fin)
    refine br_f (nI_ge (b := 5040) (by omega) (by decide)) (br_f (by decide) ⟨vp_in_nI (by omega) (by decide), ?_⟩)
    rw [nI_clamp (n := a) (by omega), h2 a ha]
    refine pk_le l (p a) (fun e => nxt l h6 (Nat.le_refl _) (fun _ => e)) (fun e => ?_)
    refine yy_ly hn h3 h2 hc h4 hg hg hs (fun z => br_f (by decide) ⟨vp_in_nI (by omega) (by decide), nm_e (nxt (p a) ⟨p, z, rfl⟩ (by omega) (fun _ => Nat.le_refl _))⟩) (fun z => br_t rfl (nxt l h6 (Nat.le_refl _) (fun y => absurd y z)))
/-! row, leastForm -/
theorem yy_rw17 {post : Int64 → Prop} {J5 : Int64 → Int32 → Prop} {ord : Nat → Int32} {p : Nat → Nat} {g i r0 : Nat} (hn : n ≤ 7) (hg : g < 2) (hi : i < n) (hp : tg_IP n p) (ho : tg_OR n ord p) (hc : ∀ i, ce i = nI (c i)) (h4 : ∀ i, c i < 4)
    (hJ : J5 (lN (r0 * 2 ^ (2 * (i + 1)) + tg_row (tg_g c g) p (p i) i)) (nI (i + 1))) :
    ∀ (m j fu : Nat), j + m = i + 1 → m < fu → wY_row_17 post J5 (nI g) (nI i) (nI n) ce ord fu (lN (r0 * 2 ^ (2 * j) + tg_rw (tg_g c g) p (p i) j)) (nI j) := by
  intro m
  induction m with
  | zero =>
    intro j fu h1 h2
    obtain ⟨fu, rfl⟩ : ∃ q, fu = q + 1 := ⟨fu - 1, by omega⟩
    obtain rfl : j = i + 1 := by omega
    exact br_t (nI_lt (by omega) (by omega)) (nm_r (nI_1 i) hJ)
  | succ m ih =>
    intro j fu h1 h2
    obtain ⟨fu, rfl⟩ : ∃ q, fu = q + 1 := ⟨fu - 1, by omega⟩
    have b1 := hp.1 i hi
    have b2 := hp.1 j (by omega)
    have IH := ih (j + 1) fu (by omega) (by omega)
    refine br_f (nI_nlt (by omega) (by omega)) ⟨vp_in_nI (by omega) (by decide), vp_in_nI (by omega) (by decide), ?_⟩
    rw [nI_clamp (n := i) (by omega), nI_clamp (n := j) (by omega), ho i hi, ho j (by omega)]
    refine yy_at hc hg (by omega) (by omega) ?_
    rw [nI_l (by have := h4 (49 * g + 7 * p i + p j); unfold tg_g; omega), yy_l4]
    have e : (r0 * 2 ^ (2 * j) + tg_rw (tg_g c g) p (p i) j) * 4 + tg_g c g (p i) (p j) = r0 * 2 ^ (2 * (j + 1)) + tg_rw (tg_g c g) p (p i) (j + 1) := by
      show _ = _ + (4 * tg_rw (tg_g c g) p (p i) j + tg_g c g (p i) (p j))
      rw [tg_p4, Nat.add_mul, Nat.mul_assoc]
      omega
    rw [e]
    exact nm_e (nm_r (nI_1 j) IH)
theorem yy_rw5 {post : Int64 → Prop} {ord : Nat → Int32} {p : Nat → Nat} {g : Nat} (hn : n ≤ 7) (hg : g < 2) (hp : tg_IP n p) (ho : tg_OR n ord p) (hc : ∀ i, ce i = nI (c i)) (h4 : ∀ i, c i < 4) (hJ : post (lN (tg_wd (tg_g c g) p n))) :
    ∀ (m i fu : Nat), i + m = n → m < fu → wY_row_5 post (nI g) (nI n) ce ord fu (lN (tg_wd (tg_g c g) p i)) (nI i) := by
  intro m
  induction m with
  | zero =>
    intro i fu h1 h2
    obtain ⟨fu, rfl⟩ : ∃ q, fu = q + 1 := ⟨fu - 1, by omega⟩
    obtain rfl : i = n := by omega
    exact br_t (nI_le (Nat.le_refl _) (by omega)) hJ
  | succ m ih =>
    intro i fu h1 h2
    obtain ⟨fu, rfl⟩ : ∃ q, fu = q + 1 := ⟨fu - 1, by omega⟩
    have IH := ih (i + 1) fu (by omega) (by omega)
    have key := yy_rw17 (post := post) (J5 := wY_row_5 post (nI g) (nI n) ce ord fu) (r0 := tg_wd (tg_g c g) p i) hn hg (by omega) hp ho hc h4 IH (i + 1) 0 (i + 2) (by omega) (by omega)
    have e : tg_wd (tg_g c g) p i * 2 ^ (2 * 0) + tg_rw (tg_g c g) p (p i) 0 = tg_wd (tg_g c g) p i := by
      show tg_wd (tg_g c g) p i * 1 + 0 = _
      omega
    rw [e] at key
    exact br_f (nI_ge (by omega) (by omega)) ⟨i + 2, key⟩
theorem yy_rw {post : Int64 → Prop} {ord : Nat → Int32} {p : Nat → Nat} {g : Nat} (hn : n ≤ 7) (hg : g < 2) (hp : tg_IP n p) (ho : tg_OR n ord p) (hc : ∀ i, ce i = nI (c i)) (h4 : ∀ i, c i < 4) (hJ : post (lN (tg_wd (tg_g c g) p n))) : wpY_row post (nI n, ce, ord) (nI g) := by
  unfold wpY_row
  exact ⟨n + 1, yy_rw5 hn hg hp ho hc h4 hJ n 0 (n + 1) (by omega) (by omega)⟩
theorem yy_lf30 {post : Int64 → SY → Prop} {g : Nat} (hn0 : 1 ≤ n) (hn : n ≤ 7) (hg : g < 2) (hc : ∀ i, ce i = nI (c i)) (h4 : ∀ i, c i < 4)
    (hJ : ∀ B, (∃ p, tg_IP n p ∧ tg_wd (tg_g c g) p n = B) → (∀ p, tg_IP n p → B ≤ tg_wd (tg_g c g) p n) → ∀ ord, post (lN B) (nI n, ce, ord)) :
    ∀ (fu i B : Nat) (ord : Nat → Int32) (p : Nat → Nat), tg_fac n < fu + i + 1 → tg_OR n ord p → tg_IP n p → tg_rk n p n = i + 1 → (∃ p, tg_IP n p ∧ tg_wd (tg_g c g) p n = B) → (∀ q, tg_IP n q → tg_rk n q n ≤ i → B ≤ tg_wd (tg_g c g) q n) → wY_leastForm_30 post (nI g) fu (lN B) 1 (nI i) (nI n) ce ord := by
  intro fu
  have f7 := tg_fac7 n (by omega)
  have hgg : ∀ a b, tg_g c g a b < 4 := fun a b => h4 _
  induction fu with
  | zero =>
    intro i B ord p h1 h2 h3 h5 h6 h7
    have := tg_rk_lt h3 n (Nat.le_refl _)
    omega
  | succ fu ih =>
    intro i B ord p h1 h2 h3 h5 h6 h7
    have hlt := tg_rk_lt h3 n (Nat.le_refl _)
    have w1 := tg_wd_56 hgg p hn
    have w2 : B < 2 ^ 56 := by
      obtain ⟨q, q1, q2⟩ := h6
      rw [← q2]; exact tg_wd_56 hgg q hn
    have nxt : ∀ B', (∃ p, tg_IP n p ∧ tg_wd (tg_g c g) p n = B') → B' ≤ B → B' ≤ tg_wd (tg_g c g) p n → wY_leastForm_60 post (wY_leastForm_30 post (nI g) fu) (nI g) (lN B') (nI i) (nI n) ce ord := fun B' z1 z2 z3 => by
      have h8 : ∀ q, tg_IP n q → tg_rk n q n ≤ i + 1 → B' ≤ tg_wd (tg_g c g) q n := fun q hq hr => by
        rcases Nat.lt_or_ge i (tg_rk n q n) with y | y
        · have e : tg_rk n q n = tg_rk n p n := by omega
          rw [tg_wd_c (tg_rk_inj hq h3 e)]; exact z3
        · exact Nat.le_trans z2 (h7 q hq y)
      unfold wY_leastForm_60
      refine yy_nx hn0 hn h3 h2 (fun ord' p' q1 q2 q3 => nm_r (nI_1 i) (ih (i + 1) B' ord' p' (by omega) q1 q2 (by omega) z1 h8)) (fun e => nm_r (nI_1 i) ?_)
      obtain ⟨fu, rfl⟩ : ∃ q, fu = q + 1 := ⟨fu - 1, by omega⟩
      have fin := hJ B' z1 (fun q hq => h8 q hq (by have := tg_rk_lt hq n (Nat.le_refl _); omega)) ord
      exact br_c (fun _ => fin) (fun _ => br_t rfl fin)
    refine br_f (nI_ge (b := 5040) (by omega) (by decide)) (br_f (by decide) (yy_rw hn hg h3 h2 hc h4 (br_c (fun z => nxt B h6 (Nat.le_refl _) ?_) (fun z => nxt _ ⟨p, h3, rfl⟩ ?_ (Nat.le_refl _)))))
    · rw [pk_lLE (by omega) (by omega)] at z; exact z
    · rw [pk_lLE (by omega) (by omega)] at z; omega
theorem yy_lf {post : Int64 → SY → Prop} {g : Nat} {ord : Nat → Int32} (hn0 : 1 ≤ n) (hn : n ≤ 7) (hg : g < 2) (hc : ∀ i, ce i = nI (c i)) (h4 : ∀ i, c i < 4)
    (hJ : ∀ B, (∃ p, tg_IP n p ∧ tg_wd (tg_g c g) p n = B) → (∀ p, tg_IP n p → B ≤ tg_wd (tg_g c g) p n) → ∀ ord, post (lN B) (nI n, ce, ord)) : wpY_leastForm post (nI n, ce, ord) (nI g) := by
  unfold wpY_leastForm
  refine yy_grT hg (br_f (by decide) (yy_st hn (fun ord ho => yy_rw hn hg (tg_IPid n) ho hc h4 ?_)))
  have r0 : tg_rk n (fun i => i) n = 0 := tg_rk_id (fun _ _ => rfl) n (Nat.le_refl _)
  have hle : ∀ q, tg_IP n q → tg_rk n q n ≤ 0 → tg_wd (tg_g c g) (fun i => i) n ≤ tg_wd (tg_g c g) q n := fun q hq hr => by
    rw [tg_wd_c (tg_rk_inj hq (tg_IPid n) (by omega))]; exact Nat.le_refl _
  refine yy_nx hn0 hn (tg_IPid n) ho (fun ord' p' q1 q2 q3 => ⟨tg_fac n, yy_lf30 hn0 hn hg hc h4 hJ (tg_fac n) 0 _ ord' p' (by omega) q1 q2 (by omega) ⟨_, tg_IPid n, rfl⟩ hle⟩) (fun e => ⟨1, ?_⟩)
  have fin := hJ _ ⟨_, tg_IPid n, rfl⟩ (fun q hq => hle q hq (by have := tg_rk_lt hq n (Nat.le_refl _); omega)) ord
  exact br_c (fun _ => fin) (fun _ => br_t rfl fin)
end
end
section
/-! the relation -/
def tg_OK (n : Nat) (c : Nat → Nat) (ce : Nat → Int32) : Prop := 1 ≤ n ∧ n ≤ 7 ∧ (∀ i, ce i = nI (c i)) ∧ (∀ i, c i < 4) ∧ ∀ g, g < 2 → ∀ a b, a < n → b < n → tg_g c g a b = tg_g c g b a
/-- the same number of points, the same cells: colours 0 to 3, the same both ways -/
def i_Rel (_ : Nat) (u : SX) (v : SY) : Prop := ∃ (n : Nat) (c : Nat → Nat), u.1 = nI n ∧ v.1 = nI n ∧ v.2.1 = u.2.2.2.2.2.2.1 ∧ tg_OK n c v.2.1
theorem i_up {k : Nat} {u : SX} {v : SY} (h : i_Rel k u v) : i_Rel (k + 5) u v := h
section
variable {n : Nat} {gX gY fp : Int32} {fb : Int64} {fh : Int32} {ce pX pY cl fr : Nat → Int32} {mk : Nat → Int64} {cX nY im pl nP : Nat → Int32} {wo lr : Nat → Int64} {ob : Nat → Int32} {c : Nat → Nat} {ga gb : Nat}
theorem zz_in {k : Nat} {ord : Nat → Int32} (h : tg_OK n c ce) : i_Rel k (nI n, gX, gY, fp, fb, fh, ce, pX, pY, cl, fr, mk, cX, nY, im, pl, nP, wo, lr, ob) (nI n, ce, ord) := ⟨n, c, rfl, rfl, rfl, h⟩
end
theorem zz_el {P : SX → SY → Prop} (h : ∀ (n : Nat) (c : Nat → Nat) (gX gY fp : Int32) (fb : Int64) (fh : Int32) (ce pX pY cl fr : Nat → Int32) (mk : Nat → Int64) (cX nY im pl nP : Nat → Int32) (wo lr : Nat → Int64) (ob ord : Nat → Int32), tg_OK n c ce → P (nI n, gX, gY, fp, fb, fh, ce, pX, pY, cl, fr, mk, cX, nY, im, pl, nP, wo, lr, ob) (nI n, ce, ord)) {k : Nat} {u : SX} {v : SY} (I : i_Rel k u v) : P u v := by
  obtain ⟨f_n, gX, gY, fp, fb, fh, ce, pX, pY, cl, fr, mk, cX, nY, im, pl, nP, wo, lr, ob⟩ := u
  obtain ⟨g_n, sh, ord⟩ := v
  obtain ⟨n, c, e1, e2, e3, ok⟩ := I
  have e1' : f_n = nI n := e1
  have e2' : g_n = nI n := e2
  have e3' : sh = ce := e3
  subst e1' e2' e3'
  exact h n c gX gY fp fb fh sh pX pY cl fr mk cX nY im pl nP wo lr ob ord ok
theorem zz_0 {n : Nat} (h1 : 1 ≤ n) (h2 : n ≤ 7) : tg_OK n (fun _ => 0) (fun _ => 0) := ⟨h1, h2, fun _ => rfl, fun _ => (by decide : 0 < 4), fun _ _ _ _ _ _ => rfl⟩
theorem i_vc0 (k0 : Int32) : wpX_init (fun u => wpY_init (fun v => i_Rel 1 u v) k0) k0 := by
  by_cases h1 : 1 ≤ k0
  · by_cases h2 : k0 ≤ 7
    · obtain ⟨j, hj, rfl⟩ := nI_of2 (n := 7) (M := 7) (by decide) (fun z => absurd (Int32.lt_of_lt_of_le z (by decide : (0 : Int32) ≤ 1)) (Int32.not_lt.mpr h1)) h2
      have hj1 : 1 ≤ j := (nI_leI (a := 1) (by decide) (by omega)).mp h1
      exact br_t h1 (br_t h2 (br_t h1 (br_t h2 (zz_in (zz_0 hj1 hj)))))
    · exact br_t h1 (br_f h2 (br_t h1 (br_f h2 (zz_in (n := 7) (zz_0 (by decide) (by decide))))))
  · exact br_f h1 (br_f h1 (zz_in (n := 1) (zz_0 (by decide) (by decide))))
/-! what fits -/
def tg_V (n : Nat) (x y z : Int32) : Prop := ∃ g a b, g < 2 ∧ a < n ∧ b < n ∧ x = nI g ∧ y = nI a ∧ z = nI b
section
variable {n : Nat} {gX gY fp : Int32} {fb : Int64} {fh : Int32} {ce pX pY cl fr : Nat → Int32} {mk : Nat → Int64} {cX nY im pl nP : Nat → Int32} {wo lr : Nat → Int64} {ob : Nat → Int32} {c : Nat → Nat} {ga gb : Nat}
theorem xx_gr {x : Int32} (h : nI 2 ≤ x) : 1 < x := Int32.lt_of_lt_of_le (by decide) h
theorem xx_fit {post : Int32 → Prop} {x y z : Int32} (hn : n ≤ 7) (h1 : tg_V n x y z → post 1) (h0 : ¬ tg_V n x y z → post 0) : wpX_fits post (nI n, gX, gY, fp, fb, fh, ce, pX, pY, cl, fr, mk, cX, nY, im, pl, nP, wo, lr, ob) x y z := by
  unfold wpX_fits
  have bad : ∀ {u : Int32} {m : Nat}, (u < 0 ∨ nI m ≤ u) → m ≤ 7 → ∀ j, j < m → u ≠ nI j := fun {u m} hu hm j hj e => by
    subst e
    rcases hu with hu | hu
    · exact nI_pos (by omega) hu
    · exact nI_ge hj (by omega) hu
  rcases pk_ix x (n := 2) (by decide) with hx | hx | ⟨g, hg, rfl⟩
  · exact br_t hx (h0 (fun ⟨g, _, _, hg, _, _, e, _⟩ => bad (Or.inl hx) (by decide : 2 ≤ 7) g hg e))
  · exact br_f (fun w => absurd (Int32.lt_of_le_of_lt hx w) (by decide)) (br_t (xx_gr hx) (h0 (fun ⟨g, _, _, hg, _, _, e, _⟩ => bad (Or.inr hx) (by decide : 2 ≤ 7) g hg e)))
  · refine br_f (nI_pos (by omega)) (br_f (nI_nlt (a := 1) (b := g) (by omega) (by decide)) ?_)
    · rcases (show (y < 0 ∨ nI n ≤ y) ∨ ∃ j : Nat, j < n ∧ y = nI j from by
        rcases pk_ix y (n := n) (by omega) with q | q | q
        · exact Or.inl (Or.inl q)
        · exact Or.inl (Or.inr q)
        · exact Or.inr q) with hy | ⟨a, ha, rfl⟩
      · exact xx_ptF hy (br_t rfl (h0 (fun ⟨_, a, _, _, ha, _, _, e, _⟩ => bad hy hn a ha e)))
      · refine xx_ptT hn ha (br_f (by decide) ?_)
        rcases (show (z < 0 ∨ nI n ≤ z) ∨ ∃ j : Nat, j < n ∧ z = nI j from by
          rcases pk_ix z (n := n) (by omega) with q | q | q
          · exact Or.inl (Or.inl q)
          · exact Or.inl (Or.inr q)
          · exact Or.inr q) with hz | ⟨b, hb, rfl⟩
        · exact xx_ptF hz (br_t rfl (h0 (fun ⟨_, _, b, _, _, hb, _, _, e⟩ => bad hz hn b hb e)))
        · exact xx_ptT hn hb (br_f (by decide) (h1 ⟨g, a, b, hg, ha, hb, rfl, rfl, rfl⟩))
end
section
variable {n : Nat} {ce : Nat → Int32} {c : Nat → Nat}
theorem yy_fit {A B : Prop} {x y z : Int32} {ord : Nat → Int32} (hn : n ≤ 7) (h1 : tg_V n x y z → B) (h0 : ¬ tg_V n x y z → A) : wpY_isGraph (fun r_1 => (r_1 = 0 → A) ∧ (¬ r_1 = 0 → wpY_point (fun r_3 => (r_3 = 0 → A) ∧ (¬ r_3 = 0 → wpY_point (fun r_8 => (r_8 = 0 → A) ∧ (¬ r_8 = 0 → B)) (nI n, ce, ord) z)) (nI n, ce, ord) y)) x := by
  have bad : ∀ {u : Int32} {m : Nat}, (u < 0 ∨ nI m ≤ u) → m ≤ 7 → ∀ j, j < m → u ≠ nI j := fun {u m} hu hm j hj e => by
    subst e
    rcases hu with hu | hu
    · exact nI_pos (by omega) hu
    · exact nI_ge hj (by omega) hu
  rcases (show (x < 0 ∨ nI 2 ≤ x) ∨ ∃ j : Nat, j < 2 ∧ x = nI j from by
    rcases pk_ix x (n := 2) (by decide) with q | q | q
    · exact Or.inl (Or.inl q)
    · exact Or.inl (Or.inr q)
    · exact Or.inr q) with hx | ⟨g, hg, rfl⟩
  · exact yy_grF hx (br_t rfl (h0 (fun ⟨g, _, _, hg, _, _, e, _⟩ => bad hx (by decide : 2 ≤ 7) g hg e)))
  · refine yy_grT hg (br_f (by decide) ?_)
    rcases (show (y < 0 ∨ nI n ≤ y) ∨ ∃ j : Nat, j < n ∧ y = nI j from by
      rcases pk_ix y (n := n) (by omega) with q | q | q
      · exact Or.inl (Or.inl q)
      · exact Or.inl (Or.inr q)
      · exact Or.inr q) with hy | ⟨a, ha, rfl⟩
    · exact yy_ptF hy (br_t rfl (h0 (fun ⟨_, a, _, _, ha, _, _, e, _⟩ => bad hy hn a ha e)))
    · refine yy_ptT hn ha (br_f (by decide) ?_)
      rcases (show (z < 0 ∨ nI n ≤ z) ∨ ∃ j : Nat, j < n ∧ z = nI j from by
        rcases pk_ix z (n := n) (by omega) with q | q | q
        · exact Or.inl (Or.inl q)
        · exact Or.inl (Or.inr q)
        · exact Or.inr q) with hz | ⟨b, hb, rfl⟩
      · exact yy_ptF hz (br_t rfl (h0 (fun ⟨_, _, b, _, _, hb, _, _, e⟩ => bad hz hn b hb e)))
      · exact yy_ptT hn hb (br_f (by decide) (h1 ⟨g, a, b, hg, ha, hb, rfl, rfl, rfl⟩))
/-- one colour changed, both ways -/
theorem tg_OK_p {g a b j : Nat} (h : tg_OK n c ce) (hg : g < 2) (ha : a < n) (hb : b < n) (hj : j < 4) : tg_OK n (tg_up (tg_up c (49 * g + 7 * a + b) j) (49 * g + 7 * b + a) j) (upd (upd ce (49 * g + 7 * a + b) (nI j)) (49 * g + 7 * b + a) (nI j)) := by
  obtain ⟨h1, h2, h3, h4, h5⟩ := h
  have val : ∀ i, tg_up (tg_up c (49 * g + 7 * a + b) j) (49 * g + 7 * b + a) j i = if i = 49 * g + 7 * b + a ∨ i = 49 * g + 7 * a + b then j else c i := fun i => by
    unfold tg_up
    by_cases y : i = 49 * g + 7 * b + a
    · rw [if_pos y, if_pos (Or.inl y)]
    · rw [if_neg y]
      by_cases x : i = 49 * g + 7 * a + b
      · rw [if_pos x, if_pos (Or.inr x)]
      · rw [if_neg x, if_neg (by omega)]
  refine ⟨h1, h2, fun i => ?_, fun i => ?_, fun g' hg' a' b' ha' hb' => ?_⟩
  · by_cases y : i = 49 * g + 7 * b + a
    · subst y; rw [pk_us, tg_up_s]
    · rw [pk_un y, tg_up_n y]
      by_cases x : i = 49 * g + 7 * a + b
      · subst x; rw [pk_us, tg_up_s]
      · rw [pk_un x, tg_up_n x]; exact h3 i
  · rw [val i]
    split
    · exact hj
    · exact h4 i
  · unfold tg_g
    rw [val, val]
    by_cases y : 49 * g' + 7 * a' + b' = 49 * g + 7 * b + a ∨ 49 * g' + 7 * a' + b' = 49 * g + 7 * a + b
    · rw [if_pos y, if_pos (by omega)]
    · rw [if_neg y, if_neg (by omega)]; exact h5 g' hg' a' b' ha' hb'
end
theorem i_vc_paint {k : Nat} {u : SX} {v : SY} (I : i_Rel k u v) (hk : k + 5 ≤ 2561) (v1 : Int32) (v2 : Int32) (v3 : Int32) (v4 : Int32) : wpX_paint (fun r u' => wpY_paint (fun r' v' => r' = r ∧ i_Rel (k + 5) u' v') v v1 v2 v3 v4) u v1 v2 v3 v4 := by
  refine zz_el (P := fun u v => wpX_paint (fun r u' => wpY_paint (fun r' v' => r' = r ∧ i_Rel (k + 5) u' v') v v1 v2 v3 v4) u v1 v2 v3 v4) ?_ I
  intro n c gX gY fp fb fh ce pX pY cl fr mk cX nY im pl nP wo lr ob ord ok
  unfold wpX_paint wpY_paint
  refine xx_fit ok.2.1 (fun V => br_f (by decide) ?_) (fun V => br_t rfl (yy_fit ok.2.1 (fun V' => absurd V' V) (fun _ => ⟨rfl, zz_in ok⟩)))
  obtain ⟨g, a, b, hg, ha, hb, rfl, rfl, rfl⟩ := V
  have hn := ok.2.1
  have i1 := xx_ix g a b
  have i2 := xx_ix g b a
  obtain ⟨j, hj, ej⟩ := pk_andE v4 (m := 3) 2 (by decide)
  refine ⟨pk_in _ 98 (by omega) i1, ?_⟩
  rw [pk_cl _ i1, pk_cl _ i2, ej]
  refine nm_e ⟨pk_in _ 98 (by omega) i1, nm_e ⟨pk_in _ 98 (by omega) i2, nm_e ?_⟩⟩
  refine yy_fit hn (fun _ => ?_) (fun V' => absurd ⟨g, a, b, hg, ha, hb, rfl, rfl, rfl⟩ V')
  refine yy_at ok.2.2.1 hg (by omega) (by omega) ?_
  unfold wpY_set
  refine ⟨pk_in _ 98 (by omega) i1, ?_⟩
  rw [pk_cl _ i1, pk_cl _ i2]
  exact nm_e ⟨pk_in _ 98 (by omega) i2, nm_e ⟨(ok.2.2.1 _).symm, zz_in (tg_OK_p ok hg ha hb hj)⟩⟩
theorem i_vc_colour {k : Nat} {u : SX} {v : SY} (I : i_Rel k u v) (hk : k + 5 ≤ 2561) (v1 : Int32) (v2 : Int32) (v3 : Int32) : wpX_colour (fun r => wpY_colour (fun r' => r' = r ∧ i_Rel (k + 5) u v) v v1 v2 v3) u v1 v2 v3 := by
  refine zz_el (P := fun u v => wpX_colour (fun r => wpY_colour (fun r' => r' = r ∧ i_Rel (k + 5) u v) v v1 v2 v3) u v1 v2 v3) ?_ I
  intro n c gX gY fp fb fh ce pX pY cl fr mk cX nY im pl nP wo lr ob ord ok
  unfold wpX_colour wpY_colour
  refine xx_fit ok.2.1 (fun V => br_f (by decide) ?_) (fun V => br_t rfl (yy_fit ok.2.1 (fun V' => absurd V' V) (fun _ => ⟨rfl, zz_in ok⟩)))
  obtain ⟨g, a, b, hg, ha, hb, rfl, rfl, rfl⟩ := V
  have hn := ok.2.1
  have i1 := xx_ix g a b
  refine ⟨pk_in _ 98 (by omega) i1, ?_⟩
  rw [pk_cl _ i1]
  refine yy_fit hn (fun _ => ?_) (fun V' => absurd ⟨g, a, b, hg, ha, hb, rfl, rfl, rfl⟩ V')
  exact yy_at ok.2.2.1 hg (by omega) (by omega) ⟨(ok.2.2.1 _).symm, zz_in ok⟩
end
section
/-! layings, symmetries, mirror, leastForm, canLay -/
theorem tg_GP0 {n : Nat} {gx gy : Nat → Nat → Nat} {px py f : Nat → Nat} : tg_GP n gx gy 0 px py f ↔ tg_Ly n gx gy f := ⟨fun z => z.1, fun z => ⟨z, fun k hk => absurd hk (by omega)⟩⟩
theorem i_vc_layings {k : Nat} {u : SX} {v : SY} (I : i_Rel k u v) (hk : k + 5 ≤ 2561) : wpX_layings (fun r u' => wpY_layings (fun r' v' => r' = r ∧ i_Rel (k + 5) u' v') v) u := by
  refine zz_el (P := fun u v => wpX_layings (fun r u' => wpY_layings (fun r' v' => r' = r ∧ i_Rel (k + 5) u' v') v) u) ?_ I
  intro n c gX gY fp fb fh ce pX pY cl fr mk cX nY im pl nP wo lr ob ord ok
  obtain ⟨o1, o2, o3, o4, o5⟩ := ok
  have ok : tg_OK n c ce := ⟨o1, o2, o3, o4, o5⟩
  unfold wpX_layings wpX_aim
  refine xx_ex (ga := 0) (gb := 1) (np := 0) (px := fun i => i) (py := fun i => i) o2 (by omega) (tg_PN_0 _ _ _ _ _) o3 o4 (by omega) (by omega) (fun ⟨f, f1⟩ cl fr mk cX nY im => br_f (by decide) ?_) (fun z cl fr mk cX nY im => br_t rfl ?_)
  · refine xx_cs (g := 0) o2 o3 o4 (by omega) (fun gX gY fp pX pY cl fr mk cX nY im => ?_)
    unfold wpY_layings
    refine yy_ct (g := 0) (h := 1) o1 o2 o3 o4 (by omega) (by omega) o5 (fun ord => ⟨?_, zz_in ok⟩)
    rw [tg_tors ⟨f, f1.1⟩]
  · unfold wpY_layings
    refine yy_ct (g := 0) (h := 1) o1 o2 o3 o4 (by omega) (by omega) o5 (fun ord => ⟨?_, zz_in ok⟩)
    rw [tg_tors0 (fun ⟨f, f1⟩ => z ⟨f, tg_GP0.mpr f1⟩)]
    rfl
theorem zz_gr (x : Int32) : ((x < 0 ∨ nI 2 ≤ x) ∧ (x < 0 ∨ (¬ x < 0 ∧ 1 < x ∧ ¬ x ≤ 1))) ∨ ∃ g : Nat, g < 2 ∧ x = nI g := by
  rcases pk_ix x (n := 2) (by decide) with q | q | q
  · exact Or.inl ⟨Or.inl q, Or.inl q⟩
  · have h1 := xx_gr q
    refine Or.inl ⟨Or.inr q, Or.inr ⟨fun w => absurd (Int32.lt_of_le_of_lt q w) (by decide), h1, fun w => ?_⟩⟩
    exact absurd (Int32.lt_of_lt_of_le h1 w) (by decide)
  · exact Or.inr q
theorem zz_pt (x : Int32) {n : Nat} (hn : n ≤ 7) : (x < 0 ∨ nI n ≤ x) ∨ ∃ a : Nat, a < n ∧ x = nI a := by
  rcases pk_ix x (n := n) (by omega) with q | q | q
  · exact Or.inl (Or.inl q)
  · exact Or.inl (Or.inr q)
  · exact Or.inr q
theorem i_vc_symmetries {k : Nat} {u : SX} {v : SY} (I : i_Rel k u v) (hk : k + 5 ≤ 2561) (v1 : Int32) : wpX_symmetries (fun r u' => wpY_symmetries (fun r' v' => r' = r ∧ i_Rel (k + 5) u' v') v v1) u v1 := by
  refine zz_el (P := fun u v => wpX_symmetries (fun r u' => wpY_symmetries (fun r' v' => r' = r ∧ i_Rel (k + 5) u' v') v v1) u v1) ?_ I
  intro n c gX gY fp fb fh ce pX pY cl fr mk cX nY im pl nP wo lr ob ord ok
  obtain ⟨o1, o2, o3, o4, o5⟩ := ok
  have ok : tg_OK n c ce := ⟨o1, o2, o3, o4, o5⟩
  unfold wpX_symmetries wpY_symmetries
  rcases zz_gr v1 with ⟨h1, h2 | ⟨h2, h3, h4⟩⟩ | ⟨g, hg, rfl⟩
  · exact br_t h2 (yy_grF h1 (br_t rfl ⟨rfl, zz_in ok⟩))
  · exact br_f h2 (br_f h4 (yy_grF h1 (br_t rfl ⟨rfl, zz_in ok⟩)))
  · refine br_f (nI_pos (by omega)) (br_t (nI_le (b := 1) (by omega) (by decide)) ?_)
    refine xx_cs o2 o3 o4 hg (fun gX gY fp pX pY cl fr mk cX nY im => ?_)
    exact yy_grT hg (br_f (by decide) (yy_ct o1 o2 o3 o4 hg hg o5 (fun ord => ⟨rfl, zz_in ok⟩)))
theorem i_vc_mirror {k : Nat} {u : SX} {v : SY} (I : i_Rel k u v) (hk : k + 5 ≤ 2561) (v1 : Int32) (v2 : Int32) : wpX_mirror (fun r u' => wpY_mirror (fun r' v' => r' = r ∧ i_Rel (k + 5) u' v') v v1 v2) u v1 v2 := by
  refine zz_el (P := fun u v => wpX_mirror (fun r u' => wpY_mirror (fun r' v' => r' = r ∧ i_Rel (k + 5) u' v') v v1 v2) u v1 v2) ?_ I
  intro n c gX gY fp fb fh ce pX pY cl fr mk cX nY im pl nP wo lr ob ord ok
  obtain ⟨o1, o2, o3, o4, o5⟩ := ok
  have ok : tg_OK n c ce := ⟨o1, o2, o3, o4, o5⟩
  unfold wpX_mirror wpY_mirror
  rcases zz_gr v1 with ⟨h1, h2 | ⟨h2, h3, h4⟩⟩ | ⟨g, hg, rfl⟩
  · exact br_t h2 (yy_grF h1 (br_t rfl ⟨rfl, zz_in ok⟩))
  · exact br_f h2 (br_t h3 (yy_grF h1 (br_t rfl ⟨rfl, zz_in ok⟩)))
  · refine br_f (nI_pos (by omega)) (br_f (nI_nlt (a := 1) (b := g) (by omega) (by decide)) ?_)
    rcases zz_pt v2 o2 with hp | ⟨a, ha, rfl⟩
    · exact xx_ptF hp (br_t rfl (yy_grT hg (br_f (by decide) (yy_ptF hp (br_t rfl ⟨rfl, zz_in ok⟩)))))
    · refine xx_ptT o2 ha (br_f (by decide) ?_)
      unfold wpX_aim
      refine xx_lp (np := 0) (px := fun i => i) (py := fun i => i) o2 (by omega) ha (tg_PN_0 _ _ _ _ _) (fun j hj => absurd hj (by omega)) o3 o4 hg hg (fun z => absurd ⟨fun i => i, tg_Ly_id n _, fun k hk => absurd hk (by omega)⟩ z) (fun b b1 _ ⟨f, f1, f2⟩ b3 pX pY cl fr mk cX nY im _ => ?_)
      refine yy_grT hg (br_f (by decide) (yy_ptT o2 ha (br_f (by decide) (yy_st o2 (fun ord ho => ⟨tg_fac n + 1, ?_⟩)))))
      refine yy_mr29 o1 o2 hg ha o3 o4 o5 (fun l ⟨f', f1', f2'⟩ l2 ord => ⟨congrArg nI ?_, zz_in ok⟩) (tg_fac n + 1) 0 a ord (fun i => i) (by omega) ho (tg_IPid n) (tg_rk_id (fun _ _ => rfl) n (Nat.le_refl _)) ⟨fun i => i, tg_Ly_id n _, rfl⟩ (fun f _ hr => absurd hr (by omega))
      have x1 := l2 f f1.1
      rcases Nat.lt_or_ge l b with y | y
      · exact absurd ⟨f', tg_GP0.mpr f1', f2'⟩ (b3 l y)
      · omega
theorem i_vc_leastForm {k : Nat} {u : SX} {v : SY} (I : i_Rel k u v) (hk : k + 5 ≤ 2561) (v1 : Int32) : wpX_leastForm (fun r u' => wpY_leastForm (fun r' v' => r' = r ∧ i_Rel (k + 5) u' v') v v1) u v1 := by
  refine zz_el (P := fun u v => wpX_leastForm (fun r u' => wpY_leastForm (fun r' v' => r' = r ∧ i_Rel (k + 5) u' v') v v1) u v1) ?_ I
  intro n c gX gY fp fb fh ce pX pY cl fr mk cX nY im pl nP wo lr ob ord ok
  obtain ⟨o1, o2, o3, o4, o5⟩ := ok
  have ok : tg_OK n c ce := ⟨o1, o2, o3, o4, o5⟩
  rcases zz_gr v1 with ⟨h1, h2 | ⟨h2, h3, h4⟩⟩ | ⟨g, hg, rfl⟩
  · unfold wpX_leastForm wpY_leastForm
    exact br_t h2 (yy_grF h1 (br_t rfl ⟨rfl, zz_in ok⟩))
  · unfold wpX_leastForm wpY_leastForm
    exact br_f h2 (br_f h4 (yy_grF h1 (br_t rfl ⟨rfl, zz_in ok⟩)))
  · refine xx_lf o1 o2 o3 o4 hg (o5 g hg) (fun B gX gY fp fb fh pX pY cl fr mk cX nY im pl nP wo lr ob ⟨p, p1, p2⟩ p3 => ?_)
    refine yy_lf o1 o2 hg o3 o4 (fun B' ⟨q, q1, q2⟩ q3 ord => ⟨congrArg lN ?_, zz_in ok⟩)
    have a1 := p3 q q1
    have a2 := q3 p p1
    omega
/-! canLay -/
section
variable {n : Nat} {gX gY fp : Int32} {fb : Int64} {fh : Int32} {ce pX pY cl fr : Nat → Int32} {mk : Nat → Int64} {cX nY im pl nP : Nat → Int32} {wo lr : Nat → Int64} {ob : Nat → Int32} {c : Nat → Nat} {ga gb : Nat}
theorem xx_cl85 {post : Int32 → SX → Prop} {np : Nat} {px py : Nat → Nat} (hn : n ≤ 7) (hp : np ≤ 7) (hpn : tg_PN n np pX pY px py) (hc : ∀ i, ce i = nI (c i)) (h4 : ∀ i, c i < 4)
    (h1 : (∃ f, tg_GP n (tg_g c 0) (tg_g c 1) np px py f) → ∀ (cl fr : Nat → Int32) (mk : Nat → Int64) (cX nY im : Nat → Int32), post 1 (nI n, nI 0, nI 1, nI np, fb, fh, ce, pX, pY, cl, fr, mk, cX, nY, im, pl, nP, wo, lr, ob))
    (h0 : (¬ ∃ f, tg_GP n (tg_g c 0) (tg_g c 1) np px py f) → ∀ (cl fr : Nat → Int32) (mk : Nat → Int64) (cX nY im : Nat → Int32), post 0 (nI n, nI 0, nI 1, nI np, fb, fh, ce, pX, pY, cl, fr, mk, cX, nY, im, pl, nP, wo, lr, ob)) : wX_canLay_85 post (nI n) (nI 0) (nI 1) (nI np) fb fh ce pX pY cl fr mk cX nY im pl nP wo lr ob := by
  unfold wX_canLay_85
  exact xx_ex (ga := 0) (gb := 1) hn hp hpn hc h4 (by omega) (by omega) (fun z cl fr mk cX nY im => br_f (by decide) (h1 z cl fr mk cX nY im)) (fun z cl fr mk cX nY im => br_t rfl (h0 z cl fr mk cX nY im))
theorem xx_cl {post : Int32 → SX → Prop} {a b a' b' : Nat} (hn : n ≤ 7) (ha : a < n) (hb : b < n) (ha' : a' < n) (hb' : b' < n) (hc : ∀ i, ce i = nI (c i)) (h4 : ∀ i, c i < 4)
    (h1 : (∃ f, tg_Ly n (tg_g c 0) (tg_g c 1) f ∧ f a = b ∧ f a' = b') → ∀ (gX gY fp : Int32) (pX pY cl fr : Nat → Int32) (mk : Nat → Int64) (cX nY im : Nat → Int32), post 1 (nI n, gX, gY, fp, fb, fh, ce, pX, pY, cl, fr, mk, cX, nY, im, pl, nP, wo, lr, ob))
    (h0 : (¬ ∃ f, tg_Ly n (tg_g c 0) (tg_g c 1) f ∧ f a = b ∧ f a' = b') → ∀ (gX gY fp : Int32) (pX pY cl fr : Nat → Int32) (mk : Nat → Int64) (cX nY im : Nat → Int32), post 0 (nI n, gX, gY, fp, fb, fh, ce, pX, pY, cl, fr, mk, cX, nY, im, pl, nP, wo, lr, ob)) : wpX_canLay post (nI n, gX, gY, fp, fb, fh, ce, pX, pY, cl, fr, mk, cX, nY, im, pl, nP, wo, lr, ob) (nI a) (nI b) (nI a') (nI b') := by
  have P1 := tg_PN_s (tg_PN_0 n pX pY (fun i => i) (fun i => i)) ha hb (fun j hj => absurd hj (by omega)) (fun j hj => absurd hj (by omega))
  unfold wpX_canLay
  refine xx_ptT hn ha (br_f (by decide) (xx_ptT hn hb (br_f (by decide) (xx_ptT hn ha' (br_f (by decide) (xx_ptT hn hb' (br_f (by decide) (pk_eq a a' (fun e => ?_) (fun e => ?_)))))))))
  · unfold wX_canLay_45
    refine pk_eq b b' (fun e2 => ?_) (fun e2 => ?_)
    · unfold wX_canLay_56 wpX_aim
      refine br_t rfl (xx_pin (np := 0) (by omega) (br_t (congrArg nI e) ?_))
      refine xx_cl85 (np := 1) hn (by omega) P1 hc h4 (fun ⟨f, f1⟩ cl fr mk cX nY im => h1 ⟨f, f1.1, (tg_GP_s.mp f1).2, ?_⟩ _ _ _ _ _ cl fr mk cX nY im) (fun z cl fr mk cX nY im => h0 (fun ⟨f, f1, f2, f3⟩ => z ⟨f, tg_GP_s.mpr ⟨tg_GP0.mpr f1, f2⟩⟩) _ _ _ _ _ cl fr mk cX nY im)
      rw [← e, ← e2]; exact (tg_GP_s.mp f1).2
    · unfold wX_canLay_56
      refine br_f (by decide) (h0 (fun ⟨f, f1, f2, f3⟩ => e2 ?_) gX gY fp pX pY cl fr mk cX nY im)
      rw [← f2, ← f3, e]
  · unfold wX_canLay_45
    refine pk_eq b b' (fun e2 => ?_) (fun e2 => ?_)
    · unfold wX_canLay_56
      refine br_f (by decide) (h0 (fun ⟨f, f1, f2, f3⟩ => e (f1.1.2 a a' ha ha' ?_)) gX gY fp pX pY cl fr mk cX nY im)
      rw [f2, f3, e2]
    · unfold wX_canLay_56 wpX_aim
      refine br_t rfl (xx_pin (np := 0) (by omega) (br_f (fun w => e ((nI_eq (by omega) (by omega)).mp w)) (xx_pin (np := 1) (by omega) ?_)))
      have P2 := tg_PN_s P1 ha' hb' (fun j hj => by
        have : j = 0 := by omega
        subst this
        rw [tg_up_s]; exact e) (fun j hj => by
        have : j = 0 := by omega
        subst this
        rw [tg_up_s]; exact e2)
      refine xx_cl85 (np := 2) hn (by omega) P2 hc h4 (fun ⟨f, f1⟩ cl fr mk cX nY im => h1 ⟨f, f1.1, (tg_GP_s.mp (tg_GP_s.mp f1).1).2, (tg_GP_s.mp f1).2⟩ _ _ _ _ _ cl fr mk cX nY im) (fun z cl fr mk cX nY im => h0 (fun ⟨f, f1, f2, f3⟩ => z ⟨f, tg_GP_s.mpr ⟨tg_GP_s.mpr ⟨tg_GP0.mpr f1, f2⟩, f3⟩⟩) _ _ _ _ _ cl fr mk cX nY im)
theorem xx_clF {post : Int32 → SX → Prop} {x y z w : Int32} (hn : n ≤ 7) (hf : ¬ ((∃ a, a < n ∧ x = nI a) ∧ (∃ a, a < n ∧ y = nI a) ∧ (∃ a, a < n ∧ z = nI a) ∧ ∃ a, a < n ∧ w = nI a)) (h : post (-1) (nI n, gX, gY, fp, fb, fh, ce, pX, pY, cl, fr, mk, cX, nY, im, pl, nP, wo, lr, ob)) : wpX_canLay post (nI n, gX, gY, fp, fb, fh, ce, pX, pY, cl, fr, mk, cX, nY, im, pl, nP, wo, lr, ob) x y z w := by
  unfold wpX_canLay
  rcases zz_pt x hn with q | ⟨a, ha, rfl⟩
  · exact xx_ptF q (br_t rfl h)
  · refine xx_ptT hn ha (br_f (by decide) ?_)
    rcases zz_pt y hn with q | ⟨b, hb, rfl⟩
    · exact xx_ptF q (br_t rfl h)
    · refine xx_ptT hn hb (br_f (by decide) ?_)
      rcases zz_pt z hn with q | ⟨a', ha', rfl⟩
      · exact xx_ptF q (br_t rfl h)
      · refine xx_ptT hn ha' (br_f (by decide) ?_)
        rcases zz_pt w hn with q | ⟨b', hb', rfl⟩
        · exact xx_ptF q (br_t rfl h)
        · exact absurd ⟨⟨a, ha, rfl⟩, ⟨b, hb, rfl⟩, ⟨a', ha', rfl⟩, b', hb', rfl⟩ hf
theorem yy_clF {post : Int32 → SY → Prop} {ord : Nat → Int32} {x y z w : Int32} (hn : n ≤ 7) (hf : ¬ ((∃ a, a < n ∧ x = nI a) ∧ (∃ a, a < n ∧ y = nI a) ∧ (∃ a, a < n ∧ z = nI a) ∧ ∃ a, a < n ∧ w = nI a)) (h : post (-1) (nI n, ce, ord)) : wpY_canLay post (nI n, ce, ord) x y z w := by
  unfold wpY_canLay
  rcases zz_pt x hn with q | ⟨a, ha, rfl⟩
  · exact yy_ptF q (br_t rfl h)
  · refine yy_ptT hn ha (br_f (by decide) ?_)
    rcases zz_pt y hn with q | ⟨b, hb, rfl⟩
    · exact yy_ptF q (br_t rfl h)
    · refine yy_ptT hn hb (br_f (by decide) ?_)
      rcases zz_pt z hn with q | ⟨a', ha', rfl⟩
      · exact yy_ptF q (br_t rfl h)
      · refine yy_ptT hn ha' (br_f (by decide) ?_)
        rcases zz_pt w hn with q | ⟨b', hb', rfl⟩
        · exact yy_ptF q (br_t rfl h)
        · exact absurd ⟨⟨a, ha, rfl⟩, ⟨b, hb, rfl⟩, ⟨a', ha', rfl⟩, b', hb', rfl⟩ hf
theorem yy_cl {post : Int32 → SY → Prop} {ord : Nat → Int32} {a b a' b' : Nat} (hn0 : 1 ≤ n) (hn : n ≤ 7) (ha : a < n) (hb : b < n) (ha' : a' < n) (hb' : b' < n) (hc : ∀ i, ce i = nI (c i)) (h4 : ∀ i, c i < 4) (hs : ∀ g, g < 2 → ∀ a b, a < n → b < n → tg_g c g a b = tg_g c g b a)
    (hF : (∃ p, tg_Ly n (tg_g c 0) (tg_g c 1) p ∧ p a = b ∧ p a' = b') → ∀ ord, post 1 (nI n, ce, ord)) (hN : (¬ ∃ p, tg_Ly n (tg_g c 0) (tg_g c 1) p ∧ p a = b ∧ p a' = b') → ∀ ord, post 0 (nI n, ce, ord)) : wpY_canLay post (nI n, ce, ord) (nI a) (nI b) (nI a') (nI b') := by
  unfold wpY_canLay
  refine yy_ptT hn ha (br_f (by decide) (yy_ptT hn hb (br_f (by decide) (yy_ptT hn ha' (br_f (by decide) (yy_ptT hn hb' (br_f (by decide) (yy_st hn (fun ord ho => ⟨tg_fac n + 1, ?_⟩)))))))))
  exact yy_cl45 hn0 hn ha hb ha' hb' hc h4 hs hF hN (tg_fac n + 1) 0 ord (fun i => i) (by omega) ho (tg_IPid n) (tg_rk_id (fun _ _ => rfl) n (Nat.le_refl _)) (fun q _ _ _ => Nat.zero_le _)
end
theorem i_vc_canLay {k : Nat} {u : SX} {v : SY} (I : i_Rel k u v) (hk : k + 5 ≤ 2561) (v1 : Int32) (v2 : Int32) (v3 : Int32) (v4 : Int32) : wpX_canLay (fun r u' => wpY_canLay (fun r' v' => r' = r ∧ i_Rel (k + 5) u' v') v v1 v2 v3 v4) u v1 v2 v3 v4 := by
  refine zz_el (P := fun u v => wpX_canLay (fun r u' => wpY_canLay (fun r' v' => r' = r ∧ i_Rel (k + 5) u' v') v v1 v2 v3 v4) u v1 v2 v3 v4) ?_ I
  intro n c gX gY fp fb fh ce pX pY cl fr mk cX nY im pl nP wo lr ob ord ok
  obtain ⟨o1, o2, o3, o4, o5⟩ := ok
  have ok : tg_OK n c ce := ⟨o1, o2, o3, o4, o5⟩
  by_cases hf : (∃ a, a < n ∧ v1 = nI a) ∧ (∃ a, a < n ∧ v2 = nI a) ∧ (∃ a, a < n ∧ v3 = nI a) ∧ ∃ a, a < n ∧ v4 = nI a
  · obtain ⟨⟨a, ha, rfl⟩, ⟨b, hb, rfl⟩, ⟨a', ha', rfl⟩, b', hb', rfl⟩ := hf
    exact xx_cl o2 ha hb ha' hb' o3 o4 (fun z gX gY fp pX pY cl fr mk cX nY im => yy_cl o1 o2 ha hb ha' hb' o3 o4 o5 (fun _ ord => ⟨rfl, zz_in ok⟩) (fun w => absurd z w)) (fun z gX gY fp pX pY cl fr mk cX nY im => yy_cl o1 o2 ha hb ha' hb' o3 o4 o5 (fun w => absurd w z) (fun _ ord => ⟨rfl, zz_in ok⟩))
  · exact xx_clF o2 hf (yy_clF o2 hf ⟨rfl, zz_in ok⟩)
end
section
/-! laid -/
theorem tg_up_id (a : Nat) : tg_up (fun i => i) a a = fun i => i := by
  funext i
  unfold tg_up
  by_cases z : i = a
  · rw [if_pos z, z]
  · rw [if_neg z]
/-- the values of g below p are chosen least, one behind another -/
def tg_GR (n : Nat) (gx gy : Nat → Nat → Nat) (p : Nat) (g : Nat → Nat) : Prop := (∀ k, k < p → ∀ b, b < g k → ¬ ∃ f, tg_GP n gx gy k (fun i => i) g f ∧ f k = b) ∧ (0 < p → ∃ f, tg_GP n gx gy p (fun i => i) g f)
theorem tg_GP_c {n k : Nat} {gx gy : Nat → Nat → Nat} {px g g' f : Nat → Nat} (e : ∀ i, i < k → g' i = g i) (h : tg_GP n gx gy k px g f) : tg_GP n gx gy k px g' f := ⟨h.1, fun j hj => by rw [e j hj]; exact h.2 j hj⟩
theorem tg_GR_s {n p b : Nat} {gx gy : Nat → Nat → Nat} {g : Nat → Nat} (h : tg_GR n gx gy p g) (h1 : ∃ f, tg_GP n gx gy p (fun i => i) g f ∧ f p = b) (h2 : ∀ b', b' < b → ¬ ∃ f, tg_GP n gx gy p (fun i => i) g f ∧ f p = b') : tg_GR n gx gy (p + 1) (tg_up g p b) := by
  refine ⟨fun k hk b' hb' ⟨f, f1, f2⟩ => ?_, fun _ => ?_⟩
  · by_cases y : k = p
    · subst y
      rw [tg_up_s] at hb'
      exact h2 b' hb' ⟨f, tg_GP_c (fun i hi => (tg_up_n (by omega)).symm) f1, f2⟩
    · rw [tg_up_n y] at hb'
      exact h.1 k (by omega) b' hb' ⟨f, tg_GP_c (fun i hi => (tg_up_n (by omega)).symm) f1, f2⟩
  · obtain ⟨f, f1, f2⟩ := h1
    have := (tg_GP_s (n := n) (gx := gx) (gy := gy) (px := fun i => i) (py := g) (np := p) (a := p) (b := b) (f := f)).mpr ⟨f1, f2⟩
    rw [tg_up_id] at this
    exact ⟨f, this⟩
/-- chosen least one behind another: the first in the order of ranks -/
theorem tg_GR_min {n p : Nat} {gx gy : Nat → Nat → Nat} {g q : Nat → Nat} (hpn : p ≤ n) (h : tg_GR n gx gy p g) (hq : tg_Ly n gx gy q) (hm : ∀ f, tg_Ly n gx gy f → tg_rk n q n ≤ tg_rk n f n) : ∀ k, k < p → g k = q k := by
  intro k
  induction k using Nat.strongRecOn with
  | ind k ih =>
    intro hk
    obtain ⟨f, f1⟩ := h.2 (by omega)
    rcases Nat.lt_trichotomy (g k) (q k) with y | y | y
    · exfalso
      have ek : f k = g k := f1.2 k hk
      have := tg_rk_less (p := f) (q := q) f1.1.1 (i := k) (by omega) (fun j hj => (f1.2 j (by omega)).trans (ih j hj (by omega))) (by omega) n (by omega) (Nat.le_refl _)
      have := hm f f1.1
      omega
    · exact y
    · exact absurd ⟨q, ⟨hq, fun j hj => (ih j hj (by omega)).symm⟩, rfl⟩ (h.1 k hk (q k) y)
section
variable {n : Nat} {gX gY fp : Int32} {fb : Int64} {fh : Int32} {ce pX pY cl fr : Nat → Int32} {mk : Nat → Int64} {cX nY im pl nP : Nat → Int32} {wo lr : Nat → Int64} {ob : Nat → Int32} {c : Nat → Nat} {ga gb : Nat}
theorem xx_ld23 {post : Int32 → SX → Prop} {a : Nat} (hn : n ≤ 7) (ha : a < n) (hc : ∀ i, ce i = nI (c i)) (h4 : ∀ i, c i < 4)
    (hF : ∀ g, tg_GR n (tg_g c 0) (tg_g c 1) (a + 1) g → ∀ (gX gY fp : Int32) (pX pY cl fr : Nat → Int32) (mk : Nat → Int64) (cX nY im : Nat → Int32), post (nI (g a)) (nI n, gX, gY, fp, fb, fh, ce, pX, pY, cl, fr, mk, cX, nY, im, pl, nP, wo, lr, ob))
    (hN : (¬ ∃ f, tg_Ly n (tg_g c 0) (tg_g c 1) f) → ∀ (gX gY fp : Int32) (pX pY cl fr : Nat → Int32) (mk : Nat → Int64) (cX nY im : Nat → Int32), post (-1) (nI n, gX, gY, fp, fb, fh, ce, pX, pY, cl, fr, mk, cX, nY, im, pl, nP, wo, lr, ob)) :
    ∀ (m p fu : Nat) (x2 : Int32) (g : Nat → Nat) (pX pY cl fr : Nat → Int32) (mk : Nat → Int64) (cX nY im : Nat → Int32), p + m = a + 1 → m + 1 < fu → (0 < p → x2 = nI (g (p - 1))) → tg_GR n (tg_g c 0) (tg_g c 1) p g → tg_PN n p pX pY (fun i => i) g → wX_laid_23 post (nI a) fu x2 1 (nI p) (nI n) (nI 0) (nI 1) (nI p) fb fh ce pX pY cl fr mk cX nY im pl nP wo lr ob := by
  intro m
  induction m with
  | zero =>
    intro p fu x2 g pX pY cl fr mk cX nY im h1 h2 h3 h5 h6
    obtain ⟨fu, rfl⟩ : ∃ q, fu = q + 1 := ⟨fu - 1, by omega⟩
    obtain rfl : p = a + 1 := by omega
    rw [h3 (by omega), show a + 1 - 1 = a by omega]
    exact br_t (nI_lt (by omega) (by omega)) (hF g h5 _ _ _ pX pY cl fr mk cX nY im)
  | succ m ih =>
    intro p fu x2 g pX pY cl fr mk cX nY im h1 h2 h3 h5 h6
    obtain ⟨fu, rfl⟩ : ∃ q, fu = q + 1 := ⟨fu - 1, by omega⟩
    refine br_f (nI_nlt (by omega) (by omega)) (br_f (by decide) (xx_lp (ga := 0) (gb := 1) (np := p) hn (by omega) (by omega) h6 (fun j hj => by show j ≠ p; omega) hc h4 (by omega) (by omega) (fun z pX pY cl fr mk cX nY im => ?_) (fun b b1 b2 b3 b4 pX pY cl fr mk cX nY im b5 => ?_)))
    · have p0 : p = 0 := by
        rcases Nat.eq_zero_or_pos p with y | y
        · exact y
        · exact absurd (h5.2 y) z
      subst p0
      have none : ¬ ∃ f, tg_Ly n (tg_g c 0) (tg_g c 1) f := fun ⟨f, f1⟩ => z ⟨f, tg_GP0.mpr f1⟩
      obtain ⟨fu, rfl⟩ : ∃ q, fu = q + 1 := ⟨fu - 1, by omega⟩
      exact br_t (by decide) (nm_e (br_c (fun _ => hN none _ _ _ pX pY cl fr mk cX nY im) (fun _ => br_t rfl (hN none _ _ _ pX pY cl fr mk cX nY im))))
    · rw [tg_up_id] at b5
      refine br_f (nI_pos (by omega)) (nm_r (nI_1 p) (ih (p + 1) fu (nI b) (tg_up g p b) pX pY cl fr mk cX nY im (by omega) (by omega) (fun _ => ?_) (tg_GR_s h5 b3 b4) b5))
      rw [show p + 1 - 1 = p by omega, tg_up_s]
end
theorem i_vc_laid {k : Nat} {u : SX} {v : SY} (I : i_Rel k u v) (hk : k + 5 ≤ 2561) (v1 : Int32) : wpX_laid (fun r u' => wpY_laid (fun r' v' => r' = r ∧ i_Rel (k + 5) u' v') v v1) u v1 := by
  refine zz_el (P := fun u v => wpX_laid (fun r u' => wpY_laid (fun r' v' => r' = r ∧ i_Rel (k + 5) u' v') v v1) u v1) ?_ I
  intro n c gX gY fp fb fh ce pX pY cl fr mk cX nY im pl nP wo lr ob ord ok
  obtain ⟨o1, o2, o3, o4, o5⟩ := ok
  have ok : tg_OK n c ce := ⟨o1, o2, o3, o4, o5⟩
  unfold wpX_laid wpY_laid
  rcases zz_pt v1 o2 with hp | ⟨a, ha, rfl⟩
  · exact xx_ptF hp (br_t rfl (yy_ptF hp (br_t rfl ⟨rfl, zz_in ok⟩)))
  · refine xx_ptT o2 ha (br_f (by decide) ?_)
    unfold wpX_aim
    refine ⟨a + 3, xx_ld23 o2 ha o3 o4 (fun g hg gX gY fp pX pY cl fr mk cX nY im => ?_) (fun z gX gY fp pX pY cl fr mk cX nY im => ?_) (a + 1) 0 (a + 3) (-1) (fun i => i) pX pY cl fr mk cX nY im (by omega) (by omega) (fun z => absurd z (by omega)) ⟨fun k hk => absurd hk (by omega), fun z => absurd z (by omega)⟩ (tg_PN_0 _ _ _ _ _)⟩
    · refine yy_ptT o2 ha (br_f (by decide) (yy_st o2 (fun ord ho => ⟨tg_fac n + 1, yy_ld18 o1 o2 ha o3 o4 o5 (fun ord p p1 p2 => ⟨congrArg nI ?_, zz_in ok⟩) (fun z => ?_) (tg_fac n + 1) 0 ord (fun i => i) (by omega) ho (tg_IPid n) (tg_rk_id (fun _ _ => rfl) n (Nat.le_refl _)) (fun q _ => Nat.zero_le _)⟩)))
      · obtain ⟨f, f1⟩ := hg.2 (by omega)
        exact absurd ⟨f, f1.1⟩ z
      · exact (tg_GR_min (by omega) hg p1 p2 a (by omega)).symm
    · exact yy_ptT o2 ha (br_f (by decide) (yy_st o2 (fun ord ho => ⟨tg_fac n + 1, yy_ld18 o1 o2 ha o3 o4 o5 (fun ord p p1 p2 => absurd ⟨p, p1⟩ z) (fun _ ord => ⟨rfl, zz_in ok⟩) (tg_fac n + 1) 0 ord (fun i => i) (by omega) ho (tg_IPid n) (tg_rk_id (fun _ _ => rfl) n (Nat.le_refl _)) (fun q _ => Nat.zero_le _)⟩)))
end
section
/-! copySwapped -/
def tg_cs (c : Nat → Nat) (n g a b x y : Nat) : Nat → Nat := fun i =>
  if 49 * g ≤ i ∧ i < 49 * g + 49 ∧ (i - 49 * g) % 7 < n ∧ ((i - 49 * g) / 7 < x ∨ ((i - 49 * g) / 7 = x ∧ (i - 49 * g) % 7 < y)) then c (49 * (1 - g) + 7 * tg_sw a b ((i - 49 * g) / 7) + tg_sw a b ((i - 49 * g) % 7)) else c i
theorem tg_cs_0 (c : Nat → Nat) (n g a b i : Nat) : tg_cs c n g a b 0 0 i = c i := if_neg (by omega)
theorem tg_cs_r (c : Nat → Nat) (n g a b x i : Nat) : tg_cs c n g a b x n i = tg_cs c n g a b (x + 1) 0 i := by
  unfold tg_cs
  by_cases h : 49 * g ≤ i ∧ i < 49 * g + 49 ∧ (i - 49 * g) % 7 < n ∧ ((i - 49 * g) / 7 < x ∨ ((i - 49 * g) / 7 = x ∧ (i - 49 * g) % 7 < n))
  · rw [if_pos h, if_pos (by omega)]
  · rw [if_neg h, if_neg (by omega)]
theorem tg_cs_o {c : Nat → Nat} {n g a b x y u v : Nat} (hg : g < 2) (hu : u < 7) (hv : v < 7) : tg_cs c n g a b x y (49 * (1 - g) + 7 * u + v) = c (49 * (1 - g) + 7 * u + v) := if_neg (by omega)
theorem tg_dm {g x y : Nat} (hx : x < 7) (hy : y < 7) : (49 * g + 7 * x + y - 49 * g) / 7 = x ∧ (49 * g + 7 * x + y - 49 * g) % 7 = y := by omega
theorem tg_cs_s {c : Nat → Nat} {n g a b x y : Nat} (hn : n ≤ 7) (hx : x < n) (hy : y < n) (i : Nat) : tg_cs c n g a b x (y + 1) i = if i = 49 * g + 7 * x + y then c (49 * (1 - g) + 7 * tg_sw a b x + tg_sw a b y) else tg_cs c n g a b x y i := by
  by_cases e : i = 49 * g + 7 * x + y
  · subst e
    obtain ⟨d1, d2⟩ := tg_dm (g := g) (x := x) (y := y) (by omega) (by omega)
    rw [if_pos rfl]
    unfold tg_cs
    rw [d1, d2, if_pos (by omega)]
  · rw [if_neg e]
    unfold tg_cs
    by_cases h : 49 * g ≤ i ∧ i < 49 * g + 49 ∧ (i - 49 * g) % 7 < n ∧ ((i - 49 * g) / 7 < x ∨ ((i - 49 * g) / 7 = x ∧ (i - 49 * g) % 7 < y))
    · rw [if_pos h, if_pos (by omega)]
    · rw [if_neg h, if_neg (by omega)]
theorem tg_cs_e {c : Nat → Nat} {n g a b u v : Nat} (hn : n ≤ 7) (hu : u < n) (hv : v < n) : tg_cs c n g a b n 0 (49 * g + 7 * u + v) = c (49 * (1 - g) + 7 * tg_sw a b u + tg_sw a b v) := by
  obtain ⟨d1, d2⟩ := tg_dm (g := g) (x := u) (y := v) (by omega) (by omega)
  unfold tg_cs
  rw [d1, d2, if_pos (by omega)]
theorem tg_OK_c {n g a b : Nat} {c : Nat → Nat} {ce ce' : Nat → Int32} (h : tg_OK n c ce) (hg : g < 2) (ha : a < n) (hb : b < n) (e : ∀ i, ce' i = nI (tg_cs c n g a b n 0 i)) : tg_OK n (tg_cs c n g a b n 0) ce' := by
  obtain ⟨h1, h2, h3, h4, h5⟩ := h
  refine ⟨h1, h2, e, fun i => ?_, fun g' hg' u v hu hv => ?_⟩
  · unfold tg_cs
    split
    · exact h4 _
    · exact h4 _
  · show tg_cs c n g a b n 0 (49 * g' + 7 * u + v) = tg_cs c n g a b n 0 (49 * g' + 7 * v + u)
    by_cases y : g' = g
    · subst y
      rw [tg_cs_e h2 hu hv, tg_cs_e h2 hv hu]
      exact h5 (1 - g') (by omega) _ _ (tg_sw_lt ha hb hu) (tg_sw_lt ha hb hv)
    · obtain rfl : g' = 1 - g := by omega
      rw [tg_cs_o hg (by omega) (by omega), tg_cs_o hg (by omega) (by omega)]
      exact h5 (1 - g) hg' u v hu hv
theorem xx_49 {g : Nat} (hg : g < 2) : 49 * (1 - nI g) = nI (49 * (1 - g)) := by
  have : g = 0 ∨ g = 1 := by omega
  rcases this with e | e <;> subst e <;> decide
theorem xx_i49 (e u v : Nat) : (nI e + 7 * nI u) + nI v = nI (e + 7 * u + v) := by
  rw [show (7 : Int32) = nI 7 from rfl, pk_mul, nI_add, nI_add]
section
variable {n : Nat} {gX gY fp : Int32} {fb : Int64} {fh : Int32} {ce pX pY cl fr : Nat → Int32} {mk : Nat → Int64} {cX nY im pl nP : Nat → Int32} {wo lr : Nat → Int64} {ob : Nat → Int32} {c : Nat → Nat} {ga gb : Nat}
theorem xx_cp90 {post : Int32 → SX → Prop} {J23 J35 : Int32 → (Nat → Int32) → (Nat → Int32) → (Nat → Int32) → (Nat → Int32) → (Nat → Int32) → (Nat → Int64) → (Nat → Int32) → (Nat → Int32) → (Nat → Int32) → (Nat → Int32) → (Nat → Int32) → (Nat → Int64) → (Nat → Int64) → (Nat → Int32) → Prop} {x2 x3 : Int32} {g a b x y : Nat} (hn : n ≤ 7) (hg : g < 2) (ha : a < n) (hb : b < n) (hx : x < n) (hy : y < n) (hce : ∀ i, ce i = nI (tg_cs c n g a b x y i))
    (hJ : ∀ ce', (∀ i, ce' i = nI (tg_cs c n g a b x (y + 1) i)) → J35 (nI (y + 1)) ce' pX pY cl fr mk cX nY im pl nP wo lr ob) : wX_copySwapped_90 post J23 J35 (nI g) x2 x3 (nI (49 * (1 - g))) (nI x) (nI y) (nI (tg_sw a b x)) (nI (tg_sw a b y)) (nI n) gX gY fp fb fh ce pX pY cl fr mk cX nY im pl nP wo lr ob := by
  have b1 := tg_sw_lt ha hb hx
  have b2 := tg_sw_lt ha hb hy
  have i1 := xx_i49 (49 * (1 - g)) (tg_sw a b x) (tg_sw a b y)
  have i2 := xx_ix g x y
  unfold wX_copySwapped_90
  refine ⟨pk_in _ 98 (by omega) i1, pk_in _ 98 (by omega) i2, ?_⟩
  rw [pk_cl _ i1, pk_cl _ i2, hce, tg_cs_o hg (by omega) (by omega)]
  refine nm_e (nm_r (nI_1 y) (hJ _ (fun i => ?_)))
  rw [tg_cs_s hn hx hy]
  by_cases e : i = 49 * g + 7 * x + y
  · subst e; rw [pk_us, if_pos rfl]
  · rw [pk_un e, if_neg e]; exact hce i
theorem xx_cp66 {post : Int32 → SX → Prop} {J23 J35 : Int32 → (Nat → Int32) → (Nat → Int32) → (Nat → Int32) → (Nat → Int32) → (Nat → Int32) → (Nat → Int64) → (Nat → Int32) → (Nat → Int32) → (Nat → Int32) → (Nat → Int32) → (Nat → Int32) → (Nat → Int64) → (Nat → Int64) → (Nat → Int32) → Prop} {g a b x y : Nat} (hn : n ≤ 7) (hg : g < 2) (ha : a < n) (hb : b < n) (hx : x < n) (hy : y < n) (hce : ∀ i, ce i = nI (tg_cs c n g a b x y i))
    (hJ : ∀ ce', (∀ i, ce' i = nI (tg_cs c n g a b x (y + 1) i)) → J35 (nI (y + 1)) ce' pX pY cl fr mk cX nY im pl nP wo lr ob) : wX_copySwapped_66 post J23 J35 (nI g) (nI a) (nI b) (nI (49 * (1 - g))) (nI x) (nI y) (nI (tg_sw a b x)) (nI n) gX gY fp fb fh ce pX pY cl fr mk cX nY im pl nP wo lr ob := by
  have key := fun (x2 x3 : Int32) => xx_cp90 (post := post) (J23 := J23) (J35 := J35) (x2 := x2) (x3 := x3) (gX := gX) (gY := gY) (fp := fp) (fb := fb) (fh := fh) hn hg ha hb hx hy hce hJ
  unfold wX_copySwapped_66
  refine pk_eq y a (fun e => ?_) (fun e => pk_eq y b (fun e2 => ?_) (fun e2 => ?_))
  · have := key (nI a) (nI b)
    rw [show tg_sw a b y = b by rw [e, tg_sw_l]] at this
    exact this
  · have := key (nI a) (nI b)
    rw [show tg_sw a b y = a by rw [e2, tg_sw_r]] at this
    exact this
  · have := key (nI a) (nI b)
    rw [tg_sw_n e e2] at this
    exact this
theorem xx_cp35 {post : Int32 → SX → Prop} {J23 : Int32 → (Nat → Int32) → (Nat → Int32) → (Nat → Int32) → (Nat → Int32) → (Nat → Int32) → (Nat → Int64) → (Nat → Int32) → (Nat → Int32) → (Nat → Int32) → (Nat → Int32) → (Nat → Int32) → (Nat → Int64) → (Nat → Int64) → (Nat → Int32) → Prop} {g a b x : Nat} (hn : n ≤ 7) (hg : g < 2) (ha : a < n) (hb : b < n) (hx : x < n)
    (hJ : ∀ ce', (∀ i, ce' i = nI (tg_cs c n g a b (x + 1) 0 i)) → J23 (nI (x + 1)) ce' pX pY cl fr mk cX nY im pl nP wo lr ob) :
    ∀ (m y fu : Nat) (ce : Nat → Int32), y + m = n → m < fu → (∀ i, ce i = nI (tg_cs c n g a b x y i)) → wX_copySwapped_35 post J23 (nI g) (nI a) (nI b) (nI (49 * (1 - g))) (nI x) (nI n) gX gY fp fb fh fu (nI y) ce pX pY cl fr mk cX nY im pl nP wo lr ob := by
  intro m
  induction m with
  | zero =>
    intro y fu ce h1 h2 h3
    obtain ⟨fu, rfl⟩ : ∃ q, fu = q + 1 := ⟨fu - 1, by omega⟩
    obtain rfl : y = n := by omega
    exact br_t (nI_le (Nat.le_refl _) (by omega)) (nm_r (nI_1 x) (hJ ce (fun i => by rw [h3 i, tg_cs_r])))
  | succ m ih =>
    intro y fu ce h1 h2 h3
    obtain ⟨fu, rfl⟩ : ∃ q, fu = q + 1 := ⟨fu - 1, by omega⟩
    have key := xx_cp66 (post := post) (J23 := J23) (J35 := wX_copySwapped_35 post J23 (nI g) (nI a) (nI b) (nI (49 * (1 - g))) (nI x) (nI n) gX gY fp fb fh fu) (gX := gX) (gY := gY) (fp := fp) (fb := fb) (fh := fh) (pX := pX) (pY := pY) (cl := cl) (fr := fr) (mk := mk) (cX := cX) (nY := nY) (im := im) (pl := pl) (nP := nP) (wo := wo) (lr := lr) (ob := ob) hn hg ha hb hx (y := y) (by omega) h3 (fun ce' h => ih (y + 1) fu ce' (by omega) (by omega) h)
    refine br_f (nI_ge (by omega) (by omega)) (pk_eq x a (fun e => ?_) (fun e => pk_eq x b (fun e2 => ?_) (fun e2 => ?_)))
    · rw [show tg_sw a b x = b by rw [e, tg_sw_l]] at key
      exact key
    · rw [show tg_sw a b x = a by rw [e2, tg_sw_r]] at key
      exact key
    · rw [tg_sw_n e e2] at key
      exact key
theorem xx_cp23 {post : Int32 → SX → Prop} {g a b : Nat} (hn : n ≤ 7) (hg : g < 2) (ha : a < n) (hb : b < n)
    (hJ : ∀ ce', (∀ i, ce' i = nI (tg_cs c n g a b n 0 i)) → post 0 (nI n, gX, gY, fp, fb, fh, ce', pX, pY, cl, fr, mk, cX, nY, im, pl, nP, wo, lr, ob)) :
    ∀ (m x fu : Nat) (ce : Nat → Int32), x + m = n → m < fu → (∀ i, ce i = nI (tg_cs c n g a b x 0 i)) → wX_copySwapped_23 post (nI g) (nI a) (nI b) (nI (49 * (1 - g))) (nI n) gX gY fp fb fh fu (nI x) ce pX pY cl fr mk cX nY im pl nP wo lr ob := by
  intro m
  induction m with
  | zero =>
    intro x fu ce h1 h2 h3
    obtain ⟨fu, rfl⟩ : ∃ q, fu = q + 1 := ⟨fu - 1, by omega⟩
    obtain rfl : x = n := by omega
    exact br_t (nI_le (Nat.le_refl _) (by omega)) (hJ ce h3)
  | succ m ih =>
    intro x fu ce h1 h2 h3
    obtain ⟨fu, rfl⟩ : ∃ q, fu = q + 1 := ⟨fu - 1, by omega⟩
    exact br_f (nI_ge (by omega) (by omega)) ⟨n + 1, xx_cp35 hn hg ha hb (by omega) (fun ce' h => ih (x + 1) fu ce' (by omega) (by omega) h) n 0 (n + 1) ce (by omega) (by omega) h3⟩
end
section
variable {n : Nat} {ce ord : Nat → Int32} {c : Nat → Nat}
theorem yy_cp95 {post : Int32 → SY → Prop} {J28 J40 : Int32 → (Nat → Int32) → (Nat → Int32) → Prop} {x2 x3 : Int32} {g a b x y : Nat} (hn : n ≤ 7) (hg : g < 2) (ha : a < n) (hb : b < n) (hx : x < n) (hy : y < n) (hce : ∀ i, ce i = nI (tg_cs c n g a b x y i))
    (hJ : ∀ ce', (∀ i, ce' i = nI (tg_cs c n g a b x (y + 1) i)) → J40 (nI (y + 1)) ce' ord) : wY_copySwapped_95 post J28 J40 (nI g) x2 x3 (nI x) (nI y) (nI (tg_sw a b x)) (nI (tg_sw a b y)) (nI n) ce ord := by
  have b1 := tg_sw_lt ha hb hx
  have b2 := tg_sw_lt ha hb hy
  have i1 : ((49 * (1 - nI g)) + (7 * nI (tg_sw a b x))) + nI (tg_sw a b y) = nI (49 * (1 - g) + 7 * tg_sw a b x + tg_sw a b y) := by rw [xx_49 hg]; exact xx_i49 (49 * (1 - g)) (tg_sw a b x) (tg_sw a b y)
  have i2 := xx_ix g x y
  unfold wY_copySwapped_95
  refine ⟨pk_in _ 98 (by omega) i1, pk_in _ 98 (by omega) i2, ?_⟩
  rw [pk_cl _ i1, pk_cl _ i2, hce, tg_cs_o hg (by omega) (by omega)]
  refine nm_e (nm_r (nI_1 y) (hJ _ (fun i => ?_)))
  rw [tg_cs_s hn hx hy]
  by_cases e : i = 49 * g + 7 * x + y
  · subst e; rw [pk_us, if_pos rfl]
  · rw [pk_un e, if_neg e]; exact hce i
theorem yy_cp71 {post : Int32 → SY → Prop} {J28 J40 : Int32 → (Nat → Int32) → (Nat → Int32) → Prop} {g a b x y : Nat} (hn : n ≤ 7) (hg : g < 2) (ha : a < n) (hb : b < n) (hx : x < n) (hy : y < n) (hce : ∀ i, ce i = nI (tg_cs c n g a b x y i))
    (hJ : ∀ ce', (∀ i, ce' i = nI (tg_cs c n g a b x (y + 1) i)) → J40 (nI (y + 1)) ce' ord) : wY_copySwapped_71 post J28 J40 (nI g) (nI a) (nI b) (nI x) (nI y) (nI (tg_sw a b x)) (nI n) ce ord := by
  have key := fun (x2 x3 : Int32) => yy_cp95 (post := post) (J28 := J28) (J40 := J40) (x2 := x2) (x3 := x3) hn hg ha hb hx hy hce hJ
  unfold wY_copySwapped_71
  refine pk_eq y a (fun e => ?_) (fun e => pk_eq y b (fun e2 => ?_) (fun e2 => ?_))
  · have := key (nI a) (nI b)
    rw [show tg_sw a b y = b by rw [e, tg_sw_l]] at this
    exact this
  · have := key (nI a) (nI b)
    rw [show tg_sw a b y = a by rw [e2, tg_sw_r]] at this
    exact this
  · have := key (nI a) (nI b)
    rw [tg_sw_n e e2] at this
    exact this
theorem yy_cp40 {post : Int32 → SY → Prop} {J28 : Int32 → (Nat → Int32) → (Nat → Int32) → Prop} {g a b x : Nat} (hn : n ≤ 7) (hg : g < 2) (ha : a < n) (hb : b < n) (hx : x < n)
    (hJ : ∀ ce', (∀ i, ce' i = nI (tg_cs c n g a b (x + 1) 0 i)) → J28 (nI (x + 1)) ce' ord) :
    ∀ (m y fu : Nat) (ce : Nat → Int32), y + m = n → m < fu → (∀ i, ce i = nI (tg_cs c n g a b x y i)) → wY_copySwapped_40 post J28 (nI g) (nI a) (nI b) (nI x) (nI n) fu (nI y) ce ord := by
  intro m
  induction m with
  | zero =>
    intro y fu ce h1 h2 h3
    obtain ⟨fu, rfl⟩ : ∃ q, fu = q + 1 := ⟨fu - 1, by omega⟩
    obtain rfl : y = n := by omega
    exact br_t (nI_le (Nat.le_refl _) (by omega)) (nm_r (nI_1 x) (hJ ce (fun i => by rw [h3 i, tg_cs_r])))
  | succ m ih =>
    intro y fu ce h1 h2 h3
    obtain ⟨fu, rfl⟩ : ∃ q, fu = q + 1 := ⟨fu - 1, by omega⟩
    have key := yy_cp71 (post := post) (J28 := J28) (J40 := wY_copySwapped_40 post J28 (nI g) (nI a) (nI b) (nI x) (nI n) fu) (ord := ord) hn hg ha hb hx (y := y) (by omega) h3 (fun ce' h => ih (y + 1) fu ce' (by omega) (by omega) h)
    refine br_f (nI_ge (by omega) (by omega)) (pk_eq x a (fun e => ?_) (fun e => pk_eq x b (fun e2 => ?_) (fun e2 => ?_)))
    · rw [show tg_sw a b x = b by rw [e, tg_sw_l]] at key
      exact key
    · rw [show tg_sw a b x = a by rw [e2, tg_sw_r]] at key
      exact key
    · rw [tg_sw_n e e2] at key
      exact key
theorem yy_cp28 {post : Int32 → SY → Prop} {g a b : Nat} (hn : n ≤ 7) (hg : g < 2) (ha : a < n) (hb : b < n)
    (hJ : ∀ ce', (∀ i, ce' i = nI (tg_cs c n g a b n 0 i)) → post 0 (nI n, ce', ord)) :
    ∀ (m x fu : Nat) (ce : Nat → Int32), x + m = n → m < fu → (∀ i, ce i = nI (tg_cs c n g a b x 0 i)) → wY_copySwapped_28 post (nI g) (nI a) (nI b) (nI n) fu (nI x) ce ord := by
  intro m
  induction m with
  | zero =>
    intro x fu ce h1 h2 h3
    obtain ⟨fu, rfl⟩ : ∃ q, fu = q + 1 := ⟨fu - 1, by omega⟩
    obtain rfl : x = n := by omega
    exact br_t (nI_le (Nat.le_refl _) (by omega)) (hJ ce h3)
  | succ m ih =>
    intro x fu ce h1 h2 h3
    obtain ⟨fu, rfl⟩ : ∃ q, fu = q + 1 := ⟨fu - 1, by omega⟩
    exact br_f (nI_ge (by omega) (by omega)) ⟨n + 1, yy_cp40 hn hg ha hb (by omega) (fun ce' h => ih (x + 1) fu ce' (by omega) (by omega) h) n 0 (n + 1) ce (by omega) (by omega) h3⟩
end
theorem i_vc_copySwapped {k : Nat} {u : SX} {v : SY} (I : i_Rel k u v) (hk : k + 5 ≤ 2561) (v1 : Int32) (v2 : Int32) (v3 : Int32) : wpX_copySwapped (fun r u' => wpY_copySwapped (fun r' v' => r' = r ∧ i_Rel (k + 5) u' v') v v1 v2 v3) u v1 v2 v3 := by
  refine zz_el (P := fun u v => wpX_copySwapped (fun r u' => wpY_copySwapped (fun r' v' => r' = r ∧ i_Rel (k + 5) u' v') v v1 v2 v3) u v1 v2 v3) ?_ I
  intro n c gX gY fp fb fh ce pX pY cl fr mk cX nY im pl nP wo lr ob ord ok
  have hn := ok.2.1
  unfold wpX_copySwapped wpY_copySwapped
  refine xx_fit hn (fun V => br_f (by decide) ?_) (fun V => br_t rfl (yy_fit hn (fun V' => absurd V' V) (fun _ => ⟨rfl, zz_in ok⟩)))
  obtain ⟨g, a, b, hg, ha, hb, rfl, rfl, rfl⟩ := V
  have start : ∀ i, ce i = nI (tg_cs c n g a b 0 0 i) := fun i => by rw [tg_cs_0]; exact ok.2.2.1 i
  refine nm_r (xx_49 hg) ⟨n + 1, xx_cp23 hn hg ha hb (fun ce1 e1 => ?_) n 0 (n + 1) ce (by omega) (by omega) start⟩
  refine yy_fit hn (fun _ => ⟨n + 1, yy_cp28 hn hg ha hb (fun ce2 e2 => ⟨rfl, ?_⟩) n 0 (n + 1) ce (by omega) (by omega) start⟩) (fun V' => absurd ⟨g, a, b, hg, ha, hb, rfl, rfl, rfl⟩ V')
  have e : ce2 = ce1 := funext fun i => (e2 i).trans (e1 i).symm
  subst e
  exact zz_in (tg_OK_c ok hg ha hb e1)
end
