section
/-! rows of the kit (starting text): stores, nI arithmetic, masks, shifts, branches by naturals, bits -/
theorem pk_us {f : Nat → Int32} {k : Nat} {x : Int32} : upd f k x k = x := if_pos rfl
theorem pk_un {f : Nat → Int32} {k j : Nat} {x : Int32} (h : j ≠ k) : upd f k x j = f j := if_neg h
theorem pk_sub {a b : Nat} (h : b ≤ a) : nI a - nI b = nI (a - b) := by
  obtain ⟨c, rfl⟩ : ∃ c, a = c + b := ⟨a - b, by omega⟩
  rw [← nI_add, Int32.add_sub_cancel, Nat.add_sub_cancel]
theorem pk_m1 (n : Nat) : nI (n + 1) + (-1) = nI n := by
  rw [← nI_1, Int32.add_assoc, show (1 : Int32) + (-1) = 0 from rfl, Int32.add_zero]
theorem pk_mul (a b : Nat) : nI a * nI b = nI (a * b) := (Int32.ofNat_mul a b).symm
theorem pk_div {a d : Nat} (ha : a < 2 ^ 31) (h0 : 0 < d) (hd : d < 2 ^ 31) : nI a / nI d = nI (a / d) := by
  apply Int32.toInt_inj.mp
  rw [lg_idiv_nonneg (by rw [nI_toInt ha]; omega) (by rw [nI_toInt hd]; omega), nI_toInt ha, nI_toInt hd, nI_toInt (Nat.lt_of_le_of_lt (Nat.div_le_self a d) ha)]
  first | rfl | exact (Int.natCast_ediv _ _).symm
theorem pk_rem {a d : Nat} (ha : a < 2 ^ 31) (h0 : 0 < d) (hd : d < 2 ^ 31) : nI a - nI a / nI d * nI d = nI (a % d) := by
  rw [pk_div ha h0 hd, pk_mul, pk_sub (Nat.div_mul_le_self a d)]
  exact congrArg nI (by have := Nat.div_add_mod' a d; omega)
theorem pk_sub_toInt {a b : Nat} (ha : a < 2 ^ 30) (hb : b < 2 ^ 30) : (nI a - nI b).toInt = (a : Int) - b := by
  rw [Int32.toInt_sub, nI_toInt (by omega), nI_toInt (by omega)]
  exact Int.bmod_eq_of_le (by omega) (by omega)
theorem pk_sneg {a b : Nat} (hb : b < 2 ^ 30) (h : a < b) : nI a - nI b < 0 := by
  rw [Int32.lt_iff_toInt_lt, pk_sub_toInt (by omega) hb, show (0 : Int32).toInt = 0 from by decide]
  omega
theorem pk_ix (x : Int32) {n : Nat} (hn : n < 2 ^ 31) : x < 0 ∨ nI n ≤ x ∨ ∃ j : Nat, j < n ∧ x = nI j := by
  by_cases h : x < 0
  · exact Or.inl h
  · obtain ⟨j, hj, rfl⟩ := nI_of h
    by_cases h2 : j < n
    · exact Or.inr (Or.inr ⟨j, h2, rfl⟩)
    · exact Or.inr (Or.inl (nI_le (by omega) hj))
theorem pk_le {x y : Int32} {A B : Prop} (a b : Nat) (f : a ≤ b → A) (g : b < a → B) (hx : x = nI a := by rfl) (hy : y = nI b := by rfl) (ha : a < 2 ^ 31 := by omega) (hb : b < 2 ^ 31 := by omega) : (x ≤ y → A) ∧ (¬ x ≤ y → B) := by
  subst hx hy
  rw [nI_leI ha hb]
  exact ⟨f, fun z => g (by omega)⟩
theorem pk_lt {x y : Int32} {A B : Prop} (a b : Nat) (f : a < b → A) (g : b ≤ a → B) (hx : x = nI a := by rfl) (hy : y = nI b := by rfl) (ha : a < 2 ^ 31 := by omega) (hb : b < 2 ^ 31 := by omega) : (x < y → A) ∧ (¬ x < y → B) := by
  subst hx hy
  rw [nI_ltI ha hb]
  exact ⟨f, fun z => g (by omega)⟩
theorem pk_eq {x y : Int32} {A B : Prop} (a b : Nat) (f : a = b → A) (g : a ≠ b → B) (hx : x = nI a := by rfl) (hy : y = nI b := by rfl) (ha : a < 2 ^ 31 := by omega) (hb : b < 2 ^ 31 := by omega) : (x = y → A) ∧ (¬ x = y → B) := by
  subst hx hy
  rw [nI_eq ha hb]
  exact ⟨f, g⟩
theorem pk_in {x : Int32} (n N : Nat) (h : n < N) (hx : x = nI n := by rfl) (hN : N < 2 ^ 31 := by omega) : vp_in x N := by
  subst hx
  exact vp_in_nI h hN
theorem pk_cl {x : Int32} (n : Nat) (hx : x = nI n := by rfl) (h : n < 2 ^ 31 := by omega) : x.toNatClampNeg = n := by
  subst hx
  exact nI_clamp h
theorem pk_tn {n : Nat} (h : n < 2 ^ 32) : (nI n).toBitVec.toNat = n := Nat.mod_eq_of_lt h
theorem pk_and (x : Int32) {m : Int32} (k : Nat) (hm : m.toBitVec.toNat = 2 ^ k - 1) : x &&& m = nI (x.toBitVec.toNat % 2 ^ k) := by
  apply Int32.toBitVec_inj.mp
  apply BitVec.eq_of_toNat_eq
  rw [Int32.toBitVec_and, BitVec.toNat_and, hm, Nat.and_two_pow_sub_one_eq_mod]
  show _ = (BitVec.ofNat 32 _).toNat
  rw [BitVec.toNat_ofNat]
  exact (Nat.mod_eq_of_lt (Nat.lt_of_le_of_lt (Nat.mod_le _ _) x.toBitVec.isLt)).symm
theorem pk_andN {n : Nat} (h : n < 2 ^ 32) {m : Int32} (k : Nat) (hm : m.toBitVec.toNat = 2 ^ k - 1) : nI n &&& m = nI (n % 2 ^ k) := by
  rw [pk_and _ k hm, pk_tn h]
theorem pk_andE (x : Int32) {m : Int32} (k : Nat) (hm : m.toBitVec.toNat = 2 ^ k - 1) : ∃ j : Nat, j < 2 ^ k ∧ x &&& m = nI j := ⟨_, Nat.mod_lt _ (Nat.two_pow_pos k), pk_and x k hm⟩
theorem pk_andIn (x : Int32) {m : Int32} (k : Nat) (hm : m.toBitVec.toNat = 2 ^ k - 1) (hk : k ≤ 30) : vp_in (x &&& m) (2 ^ k) := by
  obtain ⟨j, hj, e⟩ := pk_andE x k hm
  rw [e]
  exact vp_in_nI hj (Nat.lt_of_le_of_lt (Nat.pow_le_pow_right (by decide) hk) (by decide))
theorem pk_shl (a s : Int32) (k : Nat) (hs : (s.toBitVec.smod 32).toNat = k) : (a <<< s).toBitVec.toNat = a.toBitVec.toNat * 2 ^ k % 2 ^ 32 := by
  show (a.toBitVec <<< (s.toBitVec.smod 32).toNat).toNat = _
  rw [hs, BitVec.toNat_shiftLeft, Nat.shiftLeft_eq]
theorem pk_shlN {n : Nat} (s : Int32) (k : Nat) (hs : (s.toBitVec.smod 32).toNat = k) (h : n * 2 ^ k < 2 ^ 32) : nI n <<< s = nI (n * 2 ^ k) := by
  apply Int32.toBitVec_inj.mp
  apply BitVec.eq_of_toNat_eq
  have hn : n < 2 ^ 32 := Nat.lt_of_le_of_lt (Nat.le_mul_of_pos_right n (Nat.two_pow_pos k)) h
  rw [pk_shl _ _ k hs, pk_tn hn, pk_tn h, Nat.mod_eq_of_lt h]
theorem pk_shr (a s : Int32) (k : Nat) (hs : (s.toBitVec.smod 32).toNat = k) : (a >>> s).toInt = a.toInt >>> k := by
  show (a.toBitVec.sshiftRight (s.toBitVec.smod 32).toNat).toInt = _
  rw [hs, BitVec.toInt_sshiftRight]
  rfl
theorem pk_shrN {n : Nat} (h : n < 2 ^ 31) (s : Int32) (k : Nat) (hs : (s.toBitVec.smod 32).toNat = k) : nI n >>> s = nI (n / 2 ^ k) := by
  apply Int32.toInt_inj.mp
  have h2 : n / 2 ^ k ≤ n := Nat.div_le_self _ _
  rw [pk_shr _ _ k hs, nI_toInt h, nI_toInt (by omega), Int.shiftRight_eq_div_pow]
  rfl
theorem pk_ushr (x s : Int32) (k : Nat) (hs : ((s.toUInt32 &&& Int32.toUInt32 31).toBitVec % 32).toNat = k) : (x.toUInt32 >>> (s.toUInt32 &&& Int32.toUInt32 31)).toInt32.toBitVec.toNat = x.toBitVec.toNat / 2 ^ k := by
  have e : (x.toUInt32 >>> (s.toUInt32 &&& Int32.toUInt32 31)).toInt32.toBitVec = x.toBitVec >>> k := by
    rw [← hs]
    exact UInt32.toBitVec_shiftRight _ _
  rw [e, BitVec.toNat_ushiftRight, Nat.shiftRight_eq_div_pow]
theorem pk_ushrN {n : Nat} (hn : n < 2 ^ 32) (s : Int32) (k : Nat) (hs : ((s.toUInt32 &&& Int32.toUInt32 31).toBitVec % 32).toNat = k) : ((nI n).toUInt32 >>> (s.toUInt32 &&& Int32.toUInt32 31)).toInt32 = nI (n / 2 ^ k) := by
  apply Int32.toBitVec_inj.mp
  apply BitVec.eq_of_toNat_eq
  rw [pk_ushr _ s k hs, pk_tn hn, pk_tn (Nat.lt_of_le_of_lt (Nat.div_le_self _ _) hn)]
def bt (x : Int32) (i : Nat) : Bool := x.toBitVec.getLsbD i
theorem b_ext {x y : Int32} (h : ∀ i, i < 32 → bt x i = bt y i) : x = y := Int32.toBitVec_inj.mp (BitVec.eq_of_getLsbD_eq (fun i hi => h i hi))
theorem b_or (x y : Int32) (i : Nat) : bt (x ||| y) i = (bt x i || bt y i) := by unfold bt; rw [Int32.toBitVec_or, BitVec.getLsbD_or]
theorem b_and (x y : Int32) (i : Nat) : bt (x &&& y) i = (bt x i && bt y i) := by unfold bt; rw [Int32.toBitVec_and, BitVec.getLsbD_and]
theorem b_xor (x y : Int32) (i : Nat) : bt (x ^^^ y) i = (bt x i ^^ bt y i) := by unfold bt; rw [Int32.toBitVec_xor, BitVec.getLsbD_xor]
theorem b_big {x : Int32} {i : Nat} (h : 32 ≤ i) : bt x i = false := BitVec.getLsbD_of_ge _ _ h
theorem b_0 (i : Nat) : bt 0 i = false := BitVec.getLsbD_zero
theorem s_l : ∀ n, n < 32 → ((nI n &&& 31).toBitVec.smod 32).toNat = n := by decide +kernel
theorem b_shl (n : Nat) (hn : n < 32) (x : Int32) {i : Nat} (hi : i < 32) : bt (x <<< (nI n &&& 31)) i = (decide (n ≤ i) && bt x (i - n)) := by
  unfold bt
  rw [Int32.toBitVec_shiftLeft]
  show (x.toBitVec <<< ((nI n &&& 31).toBitVec.smod 32).toNat).getLsbD i = _
  rw [s_l n hn, BitVec.getLsbD_shiftLeft]
  rcases Nat.lt_or_ge i n with h | h
  · simp [h, Nat.not_le.mpr h]
  · simp [hi, h, Nat.not_lt.mpr h]
end
section
/-! counting below a bound, by propositions -/
noncomputable def ez_b (p : Prop) : Nat := @ite Nat p (Classical.propDecidable p) 1 0
theorem ez_bt {p : Prop} (h : p) : ez_b p = 1 := if_pos h
theorem ez_bn {p : Prop} (h : ¬ p) : ez_b p = 0 := if_neg h
theorem ez_ble (p : Prop) : ez_b p ≤ 1 := by
  by_cases h : p
  · rw [ez_bt h]; exact Nat.le_refl 1
  · rw [ez_bn h]; exact Nat.zero_le 1
noncomputable def ez_c (P : Nat → Prop) : Nat → Nat
  | 0 => 0
  | k + 1 => ez_c P k + ez_b (P k)
theorem ez_cs (P : Nat → Prop) (k : Nat) : ez_c P (k + 1) = ez_c P k + ez_b (P k) := rfl
theorem ez_cst {P : Nat → Prop} {k : Nat} (h : P k) : ez_c P (k + 1) = ez_c P k + 1 := by rw [ez_cs, ez_bt h]
theorem ez_csn {P : Nat → Prop} {k : Nat} (h : ¬ P k) : ez_c P (k + 1) = ez_c P k := by rw [ez_cs, ez_bn h]; rfl
theorem ez_cmono {P Q : Nat → Prop} : ∀ {N : Nat}, (∀ k, k < N → P k → Q k) → ez_c P N ≤ ez_c Q N
  | 0, _ => Nat.le_refl _
  | N + 1, h => by
    have a := ez_cmono (P := P) (Q := Q) (N := N) (fun k hk => h k (by omega))
    by_cases z : P N
    · rw [ez_cst z, ez_cst (h N (by omega) z)]; omega
    · rw [ez_csn z, ez_cs]; omega
theorem ez_ceq {P Q : Nat → Prop} {N : Nat} (h : ∀ k, k < N → (P k ↔ Q k)) : ez_c P N = ez_c Q N :=
  Nat.le_antisymm (ez_cmono fun k hk => (h k hk).mp) (ez_cmono fun k hk => (h k hk).mpr)
theorem ez_cle (P : Nat → Prop) : ∀ N, ez_c P N ≤ N
  | 0 => Nat.le_refl _
  | N + 1 => by
    have a := ez_cle P N
    have b := ez_ble (P N)
    rw [ez_cs]; omega
theorem ez_cor {P Q : Nat → Prop} : ∀ {N : Nat}, (∀ k, k < N → P k → ¬ Q k) → ez_c (fun k => P k ∨ Q k) N = ez_c P N + ez_c Q N
  | 0, _ => rfl
  | N + 1, h => by
    have a := ez_cor (P := P) (Q := Q) (N := N) (fun k hk => h k (by omega))
    by_cases z : P N
    · have y : ¬ Q N := h N (by omega) z
      rw [ez_cst z, ez_csn y, ez_cst (P := fun k => P k ∨ Q k) (Or.inl z), a]; omega
    · by_cases y : Q N
      · rw [ez_csn z, ez_cst y, ez_cst (P := fun k => P k ∨ Q k) (Or.inr y), a]; omega
      · rw [ez_csn z, ez_csn y, ez_csn (P := fun k => P k ∨ Q k) (fun q => q.elim z y), a]
theorem ez_cex {P : Nat → Prop} : ∀ {N : Nat}, 0 < ez_c P N → ∃ a, a < N ∧ P a
  | 0, h => absurd h (Nat.lt_irrefl 0)
  | N + 1, h => by
    by_cases z : P N
    · exact ⟨N, by omega, z⟩
    · rw [ez_csn z] at h
      obtain ⟨a, ha, hp⟩ := ez_cex (P := P) (N := N) h
      exact ⟨a, by omega, hp⟩
theorem ez_c0 {P : Nat → Prop} {N : Nat} (h : ∀ k, k < N → ¬ P k) : ez_c P N = 0 := by
  rcases Nat.eq_zero_or_pos (ez_c P N) with z | z
  · exact z
  · obtain ⟨a, ha, hp⟩ := ez_cex z
    exact absurd hp (h a ha)
theorem ez_cone {a : Nat} : ∀ {N : Nat}, a < N → ez_c (fun k => k = a) N = 1
  | 0, h => absurd h (Nat.not_lt_zero a)
  | N + 1, h => by
    by_cases z : N = a
    · rw [ez_cst (P := fun k => k = a) z, ez_c0 (fun k hk => by omega)]
    · rw [ez_csn (P := fun k => k = a) z, ez_cone (by omega)]
theorem ez_cadd {P : Nat → Prop} {a N : Nat} (hp : ¬ P a) (ha : a < N) : ez_c (fun k => P k ∨ k = a) N = ez_c P N + 1 := by
  rw [ez_cor (P := P) (Q := fun k => k = a) (fun k _ p q => hp (q ▸ p)), ez_cone ha]
theorem ez_cpos {P : Nat → Prop} {a N : Nat} (hp : P a) (ha : a < N) : 0 < ez_c P N := by
  have h := ez_cmono (P := fun k => k = a) (Q := P) (N := N) (fun k _ e => e ▸ hp)
  rw [ez_cone ha] at h; omega
theorem ez_csub (P Q : Nat → Prop) (N : Nat) : ez_c P N = ez_c (fun k => P k ∧ Q k) N + ez_c (fun k => P k ∧ ¬ Q k) N := by
  rw [← ez_cor (P := fun k => P k ∧ Q k) (Q := fun k => P k ∧ ¬ Q k) (fun k _ a b => b.2 a.2)]
  exact ez_ceq fun k _ => ⟨fun p => (Classical.em (Q k)).elim (fun q => Or.inl ⟨p, q⟩) (fun q => Or.inr ⟨p, q⟩), fun o => o.elim And.left And.left⟩
theorem ez_clt {P Q : Nat → Prop} {a N : Nat} (h : ∀ k, k < N → P k → Q k) (ha : a < N) (hp : ¬ P a) (hq : Q a) : ez_c P N < ez_c Q N := by
  have g := ez_cmono (P := fun k => P k ∨ k = a) (Q := Q) (N := N) (fun k hk o => o.elim (h k hk) (fun e => e ▸ hq))
  rw [ez_cadd hp ha] at g; omega
theorem ez_cle1 {P : Nat → Prop} {N : Nat} (h : ∀ x y, x < N → y < N → P x → P y → x = y) : ez_c P N ≤ 1 := by
  rcases Nat.eq_zero_or_pos (ez_c P N) with z | z
  · omega
  · obtain ⟨a, ha, hp⟩ := ez_cex z
    have g := ez_cmono (P := P) (Q := fun k => k = a) (N := N) (fun k hk p => h k a hk ha p hp)
    rw [ez_cone ha] at g; omega
theorem ez_cshift (P : Nat → Prop) : ∀ N, ez_c P (N + 1) = ez_b (P 0) + ez_c (fun x => P (x + 1)) N
  | 0 => by rw [ez_cs]; show 0 + _ = _ + 0; omega
  | N + 1 => by rw [ez_cs, ez_cshift P N, ez_cs (fun x => P (x + 1))]; omega
theorem ez_clo (lo : Nat) : ∀ hi, ez_c (fun r => lo ≤ r) hi = hi - lo
  | 0 => by show 0 = _; omega
  | hi + 1 => by
    by_cases z : lo ≤ hi
    · rw [ez_cst (P := fun r => lo ≤ r) z, ez_clo lo hi]; omega
    · rw [ez_csn (P := fun r => lo ≤ r) z, ez_clo lo hi]; omega
theorem ez_call (N : Nat) : ez_c (fun _ => True) N = N := by
  induction N with
  | zero => rfl
  | succ N ih => rw [ez_cst (P := fun _ => True) trivial, ih]
/-- the count beyond a bound behind which nothing holds -/
theorem ez_cext {P : Nat → Prop} {M : Nat} : ∀ {N : Nat}, M ≤ N → (∀ k, M ≤ k → k < N → ¬ P k) → ez_c P N = ez_c P M
  | 0, h, _ => by have : M = 0 := by omega
                  rw [this]
  | N + 1, h, g => by
    by_cases z : M = N + 1
    · rw [z]
    · rw [ez_csn (g N (by omega) (by omega)), ez_cext (by omega) (fun k a b => g k a (by omega))]
/-- a loop whose state is a function of its turn -/
theorem ez_lf {σ : Type} (W : Nat → σ → Nat → Prop) (f : Nat → σ) (e : Nat) (hx : ∀ n, W (n + 1) (f e) e)
    (hs : ∀ n i, i < e → W n (f (i + 1)) (i + 1) → W (n + 1) (f i) i) : W (e + 1) (f 0) 0 := by
  have key : ∀ d i, i + d = e → W (d + 1) (f i) i := by
    intro d
    induction d with
    | zero => intro i hi; have : i = e := by omega
              rw [this]; exact hx 0
    | succ d ih => intro i hi; exact hs (d + 1) i (by omega) (ih (i + 1) (by omega))
  exact key e 0 (by omega)
end
section
/-! ranks in a linear order on numbers below 96 -/
def ez_LO (B : Nat → Nat → Prop) : Prop := (∀ x, ¬ B x x) ∧ (∀ x y z, B x y → B y z → B x z) ∧ (∀ x y, x ≠ y → B x y ∨ B y x)
noncomputable def ez_rk (B : Nat → Nat → Prop) (S : Nat → Prop) (e : Nat) : Nat := ez_c (fun x => S x ∧ B x e) 96
section
variable {B : Nat → Nat → Prop} {S : Nat → Prop}
theorem ez_rklt (hB : ez_LO B) {e : Nat} (he : e < 96) (hS : S e) : ez_rk B S e < ez_c S 96 :=
  ez_clt (fun _ _ h => h.1) he (fun h => hB.1 e h.2) hS
theorem ez_rkle (e : Nat) : ez_rk B S e ≤ ez_c S 96 := ez_cmono (fun _ _ h => h.1)
theorem ez_rkmono (hB : ez_LO B) {x y : Nat} (hx : x < 96) (hS : S x) (h : B x y) : ez_rk B S x < ez_rk B S y :=
  ez_clt (a := x) (fun _ _ q => ⟨q.1, hB.2.1 _ _ _ q.2 h⟩) hx (fun q => hB.1 x q.2) ⟨hS, h⟩
theorem ez_rkiff (hB : ez_LO B) {x y : Nat} (hx : x < 96) (hS : S x) (hy : y < 96) (hT : S y) : ez_rk B S x < ez_rk B S y ↔ B x y := by
  refine ⟨fun h => ?_, ez_rkmono hB hx hS⟩
  by_cases e : x = y
  · rw [e] at h; omega
  · rcases hB.2.2 x y e with z | z
    · exact z
    · have := ez_rkmono (S := S) hB hy hT z; omega
theorem ez_rkinj (hB : ez_LO B) {x y : Nat} (hx : x < 96) (hS : S x) (hy : y < 96) (hT : S y) (h : ez_rk B S x = ez_rk B S y) : x = y := by
  by_cases e : x = y
  · exact e
  · rcases hB.2.2 x y e with z | z
    · have := ez_rkmono (S := S) hB hx hS z; omega
    · have := ez_rkmono (S := S) hB hy hT z; omega
theorem ez_pig {f : Nat → Nat} {N : Nat} (hi : ∀ x y, x < N → y < N → S x → S y → f x = f y → x = y) (r : Nat) (hr : ∀ x, x < N → S x → f x ≠ r) :
    ∀ n, ez_c (fun x => S x ∧ f x < n) N + ez_b (r < n) ≤ n
  | 0 => by
    rw [ez_c0 (fun k _ h => Nat.not_lt_zero _ h.2), ez_bn (Nat.not_lt_zero r)]; omega
  | n + 1 => by
    have ih := ez_pig hi r hr n
    have e : ez_c (fun x => S x ∧ f x < n + 1) N = ez_c (fun x => S x ∧ f x < n) N + ez_c (fun x => S x ∧ f x = n) N := by
      rw [← ez_cor (P := fun x => S x ∧ f x < n) (Q := fun x => S x ∧ f x = n) (fun k _ a b => by have := a.2; have := b.2; omega)]
      refine ez_ceq fun k _ => ⟨fun h => ?_, fun h => ?_⟩
      · by_cases z : f k = n
        · exact Or.inr ⟨h.1, z⟩
        · exact Or.inl ⟨h.1, by have := h.2; omega⟩
      · rcases h with h | h
        · exact ⟨h.1, by have := h.2; omega⟩
        · exact ⟨h.1, by have := h.2; omega⟩
    rw [e]
    by_cases z : r = n
    · have c0 : ez_c (fun x => S x ∧ f x = n) N = 0 := ez_c0 (fun k hk h => hr k hk h.1 (h.2.trans z.symm))
      rw [c0, ez_bt (by omega)]
      rw [ez_bn (by omega)] at ih
      omega
    · have c1 : ez_c (fun x => S x ∧ f x = n) N ≤ 1 := ez_cle1 (fun x y hx hy a b => hi x y hx hy a.1 b.1 (a.2.trans b.2.symm))
      by_cases y : r < n
      · rw [ez_bt (by omega)]; rw [ez_bt y] at ih; omega
      · rw [ez_bn (by omega)]; omega
theorem ez_surj (hB : ez_LO B) {r : Nat} (hr : r < ez_c S 96) : ∃ e, e < 96 ∧ S e ∧ ez_rk B S e = r := by
  by_cases h : ∃ e, e < 96 ∧ S e ∧ ez_rk B S e = r
  · exact h
  · exfalso
    have g := ez_pig (S := S) (f := ez_rk B S) (N := 96) (fun x y hx hy a b e => ez_rkinj hB hx a hy b e) r (fun x hx a e => h ⟨x, hx, a, e⟩) (ez_c S 96)
    rw [ez_bt hr, ez_ceq (Q := S) (fun k hk => ⟨And.left, fun a => ⟨a, ez_rklt hB hk a⟩⟩)] at g
    omega
/-- a down-set of S is the ranks below its count -/
theorem ez_cut (hB : ez_LO B) {D : Nat → Prop} (hD : ∀ x y, x < 96 → y < 96 → S x → S y → B x y → D y → D x) {y : Nat} (hy : y < 96) (hS : S y) :
    D y ↔ ez_rk B S y < ez_c (fun x => S x ∧ D x) 96 := by
  refine ⟨fun h => ?_, fun h => ?_⟩
  · exact ez_clt (a := y) (fun k hk q => ⟨q.1, hD k y hk hy q.1 hS q.2 h⟩) hy (fun q => hB.1 y q.2) ⟨hS, h⟩
  · by_cases n : D y
    · exact n
    · exfalso
      have g : ez_c (fun x => S x ∧ D x) 96 ≤ ez_rk B S y := by
        refine ez_cmono fun k hk q => ⟨q.1, ?_⟩
        have ne : k ≠ y := fun e => n (e ▸ q.2)
        rcases hB.2.2 k y ne with z | z
        · exact z
        · exact absurd (hD y k hy hk hS q.1 z q.2) n
      omega
/-- counts over places are counts over numbers -/
theorem ez_tr (hB : ez_LO B) {Q Q' : Nat → Prop} (hQ : ∀ e, e < 96 → S e → (Q (ez_rk B S e) ↔ Q' e)) :
    ∀ d, d ≤ ez_c S 96 → ez_c Q d = ez_c (fun y => S y ∧ ez_rk B S y < d ∧ Q' y) 96
  | 0, _ => (ez_c0 (fun k _ h => Nat.not_lt_zero _ h.2.1)).symm
  | d + 1, h => by
    obtain ⟨e, he, hS, hr⟩ := ez_surj (S := S) hB (r := d) (by omega)
    have ih := ez_tr hB hQ d (by omega)
    have hq := hQ e he hS
    rw [hr] at hq
    by_cases q : Q d
    · rw [ez_cst q, ih, ← ez_cadd (P := fun y => S y ∧ ez_rk B S y < d ∧ Q' y) (a := e) (fun z => by have := z.2.1; omega) he]
      refine ez_ceq fun k hk => ⟨fun o => ?_, fun o => ?_⟩
      · rcases o with o | o
        · exact ⟨o.1, by have := o.2.1; omega, o.2.2⟩
        · rw [o]; exact ⟨hS, by omega, hq.mp q⟩
      · by_cases z : ez_rk B S k = d
        · exact Or.inr (ez_rkinj hB hk o.1 he hS (z.trans hr.symm))
        · exact Or.inl ⟨o.1, by have := o.2.1; omega, o.2.2⟩
    · rw [ez_csn q, ih]
      refine ez_ceq fun k hk => ⟨fun o => ⟨o.1, by have := o.2.1; omega, o.2.2⟩, fun o => ⟨o.1, ?_, o.2.2⟩⟩
      by_cases z : ez_rk B S k = d
      · have ke : k = e := ez_rkinj hB hk o.1 he hS (z.trans hr.symm)
        rw [ke] at o
        exact absurd (hq.mpr o.2.2) q
      · have := o.2.1; omega
theorem ez_trD (hB : ez_LO B) {Q Q' D : Nat → Prop} (hQ : ∀ e, e < 96 → S e → (Q (ez_rk B S e) ↔ Q' e))
    (hD : ∀ x y, x < 96 → y < 96 → S x → S y → B x y → D y → D x) :
    ez_c Q (ez_c (fun x => S x ∧ D x) 96) = ez_c (fun y => S y ∧ D y ∧ Q' y) 96 := by
  rw [ez_tr hB hQ _ (ez_cmono fun _ _ h => h.1)]
  exact ez_ceq fun k hk => ⟨fun h => ⟨h.1, (ez_cut hB hD hk h.1).mpr h.2.1, h.2.2⟩, fun h => ⟨h.1, (ez_cut hB hD hk h.1).mp h.2.1, h.2.2⟩⟩
theorem ez_trA (hB : ez_LO B) {Q Q' : Nat → Prop} (hQ : ∀ e, e < 96 → S e → (Q (ez_rk B S e) ↔ Q' e)) :
    ez_c Q (ez_c S 96) = ez_c (fun y => S y ∧ Q' y) 96 := by
  rw [ez_tr hB hQ _ (Nat.le_refl _)]
  exact ez_ceq fun k hk => ⟨fun h => ⟨h.1, h.2.2⟩, fun h => ⟨h.1, ez_rklt hB hk h.1, h.2⟩⟩
/-- one more, one less -/
theorem ez_rkadd {e : Nat} (he : e < 96) (hS : ¬ S e) (x : Nat) : ez_rk B (fun y => S y ∨ y = e) x = ez_rk B S x + ez_b (B e x) := by
  unfold ez_rk
  by_cases z : B e x
  · rw [ez_bt z, ← ez_cadd (P := fun y => S y ∧ B y x) (a := e) (fun q => hS q.1) he]
    refine ez_ceq fun k _ => ⟨fun o => ?_, fun o => ?_⟩
    · rcases o.1 with a | a
      · exact Or.inl ⟨a, o.2⟩
      · exact Or.inr a
    · rcases o with a | a
      · exact ⟨Or.inl a.1, a.2⟩
      · exact ⟨Or.inr a, a ▸ z⟩
  · rw [ez_bn z, Nat.add_zero]
    refine ez_ceq fun k _ => ⟨fun o => ?_, fun o => ⟨Or.inl o.1, o.2⟩⟩
    rcases o.1 with a | a
    · exact ⟨a, o.2⟩
    · exact absurd (a ▸ o.2) z
theorem ez_rkdel {e : Nat} (he : e < 96) (hS : S e) (x : Nat) : ez_rk B S x = ez_rk B (fun y => S y ∧ y ≠ e) x + ez_b (B e x) := by
  rw [← ez_rkadd (S := fun y => S y ∧ y ≠ e) he (fun q => q.2 rfl) x]
  unfold ez_rk
  refine ez_ceq fun k _ => ⟨fun o => ⟨?_, o.2⟩, fun o => ⟨?_, o.2⟩⟩
  · by_cases z : k = e
    · exact Or.inr z
    · exact Or.inl ⟨o.1, z⟩
  · rcases o.1 with a | a
    · exact a.1
    · rw [a]; exact hS
theorem ez_cdel {e : Nat} (he : e < 96) (hS : S e) : ez_c S 96 = ez_c (fun y => S y ∧ y ≠ e) 96 + 1 := by
  rw [← ez_cadd (P := fun y => S y ∧ y ≠ e) (a := e) (fun q => q.2 rfl) he]
  refine ez_ceq fun k _ => ⟨fun o => ?_, fun o => ?_⟩
  · by_cases z : k = e
    · exact Or.inr z
    · exact Or.inl ⟨o, z⟩
  · rcases o with a | a
    · exact a.1
    · rw [a]; exact hS
theorem ez_rkcongr {B' : Nat → Nat → Prop} {S' : Nat → Prop} {e : Nat} (hS : ∀ x, x < 96 → (S x ↔ S' x)) (hB : ∀ x, x < 96 → S x → (B x e ↔ B' x e)) : ez_rk B S e = ez_rk B' S' e :=
  ez_ceq fun k hk => ⟨fun o => ⟨(hS k hk).mp o.1, (hB k hk o.1).mp o.2⟩, fun o => ⟨(hS k hk).mpr o.1, (hB k hk ((hS k hk).mpr o.1)).mpr o.2⟩⟩
end
end
section
/-! texts, endings, their order -/
def ez_T (tx le : Nat → Nat) : Prop := (∀ j, tx j < 4) ∧ (∀ j, le j ≤ 9)
def ez_w (tx : Nat → Nat) : Nat → Nat → List Nat
  | _, 0 => []
  | j, k + 1 => tx j :: ez_w tx (j + 1) k
def ez_lx : List Nat → List Nat → Prop → Prop
  | [], [], p => p
  | [], _ :: _, _ => True
  | _ :: _, [], _ => False
  | a :: x, b :: y, p => a < b ∨ (a = b ∧ ez_lx x y p)
def ez_lc : List Nat → List Nat → Nat
  | [], _ => 0
  | _ :: _, [] => 0
  | a :: x, b :: y => if a = b then ez_lc x y + 1 else 0
theorem ez_lxr {p : Prop} (hp : ¬ p) : ∀ x, ¬ ez_lx x x p
  | [] => hp
  | a :: x => fun h => h.elim (Nat.lt_irrefl a) (fun q => ez_lxr hp x q.2)
theorem ez_lxt {p q r : Prop} (hp : p → q → r) : ∀ x y z, ez_lx x y p → ez_lx y z q → ez_lx x z r
  | [], [], [], h, g => hp h g
  | [], [], _ :: _, _, _ => trivial
  | [], _ :: _, [], _, g => False.elim g
  | [], _ :: _, _ :: _, _, _ => trivial
  | _ :: _, [], _, h, _ => False.elim h
  | _ :: _, _ :: _, [], _, g => False.elim g
  | a :: x, b :: y, c :: z, h, g => by
    rcases h with h | h
    · rcases g with g | g
      · exact Or.inl (Nat.lt_trans h g)
      · exact Or.inl (g.1 ▸ h)
    · rcases g with g | g
      · exact Or.inl (h.1 ▸ g)
      · exact Or.inr ⟨h.1.trans g.1, ez_lxt hp x y z h.2 g.2⟩
theorem ez_lxo {p q : Prop} (hp : p ∨ q) : ∀ x y, ez_lx x y p ∨ ez_lx y x q
  | [], [] => hp
  | [], _ :: _ => Or.inl trivial
  | _ :: _, [] => Or.inr trivial
  | a :: x, b :: y => by
    rcases Nat.lt_trichotomy a b with h | h | h
    · exact Or.inl (Or.inl h)
    · rcases ez_lxo hp x y with g | g
      · exact Or.inl (Or.inr ⟨h, g⟩)
      · exact Or.inr (Or.inr ⟨h.symm, g⟩)
    · exact Or.inr (Or.inl h)
theorem ez_lxc {p q : Prop} (h : p ↔ q) (x y : List Nat) : ez_lx x y p ↔ ez_lx x y q := by rw [propext h]
theorem ez_lcs {a b : Nat} (h : a = b) (x y : List Nat) : ez_lc (a :: x) (b :: y) = ez_lc x y + 1 := if_pos h
theorem ez_lcn {a b : Nat} (h : ¬ a = b) (x y : List Nat) : ez_lc (a :: x) (b :: y) = 0 := if_neg h
theorem ez_lcc : ∀ x y, ez_lc x y = ez_lc y x
  | [], [] => rfl
  | [], _ :: _ => rfl
  | _ :: _, [] => rfl
  | a :: x, b :: y => by
    by_cases h : a = b
    · rw [ez_lcs h, ez_lcs h.symm, ez_lcc x y]
    · rw [ez_lcn h, ez_lcn (fun e => h e.symm)]
/-- the law of three -/
theorem ez_lcu : ∀ x y z k, k ≤ ez_lc x y → k ≤ ez_lc y z → k ≤ ez_lc x z
  | [], _, _, _, h, _ => h
  | _ :: _, [], _, k, h, _ => by
    have h0 : k = 0 := Nat.le_zero.mp h
    rw [h0]; exact Nat.zero_le _
  | _ :: _, _ :: _, [], _, _, g => g
  | a :: x, b :: y, c :: z, k, h, g => by
    by_cases e : a = b
    · by_cases f : b = c
      · rw [ez_lcs e] at h
        rw [ez_lcs f] at g
        rw [ez_lcs (e.trans f)]
        rcases k with _ | k
        · omega
        · have := ez_lcu x y z k (by omega) (by omega); omega
      · rw [ez_lcn f] at g; omega
    · rw [ez_lcn e] at h; omega
theorem ez_lco {p q : Prop} : ∀ x y z, ez_lx x y p → ez_lx y z q → ez_lc x z ≤ ez_lc y z
  | [], _, _, _, _ => Nat.zero_le _
  | _ :: _, [], _, h, _ => False.elim h
  | _ :: _, _ :: _, [], _, g => False.elim g
  | a :: x, b :: y, c :: z, h, g => by
    by_cases e : a = c
    · have h1 : a = b := by
        rcases h with h | h
        · rcases g with g | g
          · omega
          · have := g.1; omega
        · exact h.1
      have h2 : ez_lx x y p := by
        rcases h with h | h
        · omega
        · exact h.2
      have g2 : ez_lx y z q := by
        rcases g with g | g
        · omega
        · exact g.2
      rw [ez_lcs e, ez_lcs (h1.symm.trans e)]
      have := ez_lco x y z h2 g2; omega
    · rw [ez_lcn e]; exact Nat.zero_le _
/-- what the reference asks of the first difference -/
theorem ez_lxw (tx : Nat → Nat) (p : Prop) : ∀ n m j k, ez_lc (ez_w tx j n) (ez_w tx k m) ≤ n ∧ ez_lc (ez_w tx j n) (ez_w tx k m) ≤ m ∧
    (ez_lc (ez_w tx j n) (ez_w tx k m) = n → ez_lc (ez_w tx j n) (ez_w tx k m) = m → (ez_lx (ez_w tx j n) (ez_w tx k m) p ↔ p)) ∧
    (ez_lc (ez_w tx j n) (ez_w tx k m) = n → ez_lc (ez_w tx j n) (ez_w tx k m) ≠ m → ez_lx (ez_w tx j n) (ez_w tx k m) p) ∧
    (ez_lc (ez_w tx j n) (ez_w tx k m) ≠ n → ez_lc (ez_w tx j n) (ez_w tx k m) = m → ¬ ez_lx (ez_w tx j n) (ez_w tx k m) p) ∧
    (ez_lc (ez_w tx j n) (ez_w tx k m) ≠ n → ez_lc (ez_w tx j n) (ez_w tx k m) ≠ m →
      (ez_lx (ez_w tx j n) (ez_w tx k m) p ↔ tx (j + ez_lc (ez_w tx j n) (ez_w tx k m)) < tx (k + ez_lc (ez_w tx j n) (ez_w tx k m))))
  | 0, 0, j, k => ⟨Nat.le_refl 0, Nat.le_refl 0, fun _ _ => Iff.rfl, fun _ h => absurd rfl h, fun h => absurd rfl h, fun h => absurd rfl h⟩
  | 0, m + 1, j, k => ⟨Nat.le_refl 0, Nat.zero_le _, fun _ h => absurd h (Nat.succ_ne_zero m).symm, fun _ _ => trivial, fun h => absurd rfl h, fun h => absurd rfl h⟩
  | n + 1, 0, j, k => ⟨Nat.zero_le _, Nat.le_refl 0, fun h => absurd h (Nat.succ_ne_zero n).symm, fun h => absurd h (Nat.succ_ne_zero n).symm, fun _ _ h => h, fun _ h => absurd rfl h⟩
  | n + 1, m + 1, j, k => by
    have ih := ez_lxw tx p n m (j + 1) (k + 1)
    show ez_lc (tx j :: ez_w tx (j + 1) n) (tx k :: ez_w tx (k + 1) m) ≤ n + 1 ∧ ez_lc (tx j :: ez_w tx (j + 1) n) (tx k :: ez_w tx (k + 1) m) ≤ m + 1 ∧
      (ez_lc (tx j :: ez_w tx (j + 1) n) (tx k :: ez_w tx (k + 1) m) = n + 1 → ez_lc (tx j :: ez_w tx (j + 1) n) (tx k :: ez_w tx (k + 1) m) = m + 1 → ((tx j < tx k ∨ (tx j = tx k ∧ ez_lx (ez_w tx (j + 1) n) (ez_w tx (k + 1) m) p)) ↔ p)) ∧
      (ez_lc (tx j :: ez_w tx (j + 1) n) (tx k :: ez_w tx (k + 1) m) = n + 1 → ez_lc (tx j :: ez_w tx (j + 1) n) (tx k :: ez_w tx (k + 1) m) ≠ m + 1 → (tx j < tx k ∨ (tx j = tx k ∧ ez_lx (ez_w tx (j + 1) n) (ez_w tx (k + 1) m) p))) ∧
      (ez_lc (tx j :: ez_w tx (j + 1) n) (tx k :: ez_w tx (k + 1) m) ≠ n + 1 → ez_lc (tx j :: ez_w tx (j + 1) n) (tx k :: ez_w tx (k + 1) m) = m + 1 → ¬ (tx j < tx k ∨ (tx j = tx k ∧ ez_lx (ez_w tx (j + 1) n) (ez_w tx (k + 1) m) p))) ∧
      (ez_lc (tx j :: ez_w tx (j + 1) n) (tx k :: ez_w tx (k + 1) m) ≠ n + 1 → ez_lc (tx j :: ez_w tx (j + 1) n) (tx k :: ez_w tx (k + 1) m) ≠ m + 1 →
        ((tx j < tx k ∨ (tx j = tx k ∧ ez_lx (ez_w tx (j + 1) n) (ez_w tx (k + 1) m) p)) ↔ tx (j + ez_lc (tx j :: ez_w tx (j + 1) n) (tx k :: ez_w tx (k + 1) m)) < tx (k + ez_lc (tx j :: ez_w tx (j + 1) n) (tx k :: ez_w tx (k + 1) m))))
    by_cases e : tx j = tx k
    · rw [ez_lcs e]
      have hd : (tx j < tx k ∨ (tx j = tx k ∧ ez_lx (ez_w tx (j + 1) n) (ez_w tx (k + 1) m) p)) ↔ ez_lx (ez_w tx (j + 1) n) (ez_w tx (k + 1) m) p :=
        ⟨fun o => o.elim (fun l => absurd e (Nat.ne_of_lt l)) And.right, fun h => Or.inr ⟨e, h⟩⟩
      rw [hd]
      obtain ⟨i1, i2, i3, i4, i5, i6⟩ := ih
      generalize ez_lc (ez_w tx (j + 1) n) (ez_w tx (k + 1) m) = t at i1 i2 i3 i4 i5 i6
      refine ⟨by omega, by omega, fun a b => i3 (by omega) (by omega), fun a b => i4 (by omega) (by omega), fun a b => i5 (by omega) (by omega), fun a b => ?_⟩
      rw [i6 (by omega) (by omega), show j + 1 + t = j + (t + 1) by omega, show k + 1 + t = k + (t + 1) by omega]
    · rw [ez_lcn e]
      refine ⟨by omega, by omega, fun a => by omega, fun a => by omega, fun _ a => by omega, fun _ _ => ?_⟩
      exact ⟨fun o => o.elim id (fun h => absurd h.1 e), Or.inl⟩
theorem ez_wl (tx : Nat → Nat) : ∀ n j, (ez_w tx j n).length = n
  | 0, _ => rfl
  | n + 1, j => congrArg (· + 1) (ez_wl tx n (j + 1))
def ez_sz (le : Nat → Nat) (x : Nat) : Nat := le (x / 16) - x % 16
def ez_at (x : Nat) : Nat := 9 * (x / 16) + x % 16
def ez_ct (tx le : Nat → Nat) (x : Nat) : List Nat := ez_w tx (ez_at x) (ez_sz le x)
def ez_B (tx le : Nat → Nat) (x y : Nat) : Prop := ez_lx (ez_ct tx le x) (ez_ct tx le y) (x < y)
def ez_En (le : Nat → Nat) (x : Nat) : Prop := x < 96 ∧ 0 < le (x / 16) ∧ x % 16 ≤ le (x / 16)
def ez_pr (tx : Nat → Nat) (x : Nat) : Nat := if x % 16 = 0 then 4 + x / 16 else tx (ez_at x - 1)
theorem ez_BLO (tx le : Nat → Nat) : ez_LO (ez_B tx le) :=
  ⟨fun x => ez_lxr (Nat.lt_irrefl x) _, fun _ _ _ h g => ez_lxt Nat.lt_trans _ _ _ h g, fun _ _ h => ez_lxo (Nat.lt_or_gt_of_ne h) _ _⟩
section
variable {tx le : Nat → Nat}
theorem ez_ct0 {x : Nat} (h : ez_sz le x = 0) : ez_ct tx le x = [] := by unfold ez_ct; rw [h]; rfl
theorem ez_cts (hT : ez_T tx le) {x : Nat} (h : 0 < ez_sz le x) : ez_ct tx le x = tx (ez_at x) :: ez_ct tx le (x + 1) := by
  have h9 := hT.2 (x / 16)
  have h1 : x % 16 < le (x / 16) := by unfold ez_sz at h; omega
  have e1 : (x + 1) / 16 = x / 16 := by omega
  have e2 : (x + 1) % 16 = x % 16 + 1 := by omega
  have e3 : ez_sz le x = ez_sz le (x + 1) + 1 := by unfold ez_sz; rw [e1, e2]; omega
  have e4 : ez_at (x + 1) = ez_at x + 1 := by unfold ez_at; rw [e1, e2]; omega
  unfold ez_ct
  rw [e3, e4]
  rfl
theorem ez_B0 (hT : ez_T tx le) {x y : Nat} (h : ez_sz le y = 0) : ez_B tx le x y ↔ (ez_sz le x = 0 ∧ x < y) := by
  unfold ez_B
  rw [ez_ct0 h]
  rcases Nat.eq_zero_or_pos (ez_sz le x) with z | z
  · rw [ez_ct0 z]
    exact ⟨fun q => ⟨z, q⟩, And.right⟩
  · rw [ez_cts hT z]
    exact ⟨fun q => False.elim q, fun q => by omega⟩
theorem ez_Bs (hT : ez_T tx le) {x y : Nat} (h : 0 < ez_sz le y) :
    ez_B tx le x y ↔ (ez_sz le x = 0 ∨ (0 < ez_sz le x ∧ (tx (ez_at x) < tx (ez_at y) ∨ (tx (ez_at x) = tx (ez_at y) ∧ ez_B tx le (x + 1) (y + 1))))) := by
  unfold ez_B
  rw [ez_cts hT h]
  rcases Nat.eq_zero_or_pos (ez_sz le x) with z | z
  · rw [ez_ct0 z]
    exact ⟨fun _ => Or.inl z, fun _ => trivial⟩
  · rw [ez_cts hT z]
    have e := ez_lxc (p := x < y) (q := x + 1 < y + 1) (by omega) (ez_ct tx le (x + 1)) (ez_ct tx le (y + 1))
    refine ⟨fun q => Or.inr ⟨z, ?_⟩, fun q => ?_⟩
    · rcases q with q | q
      · exact Or.inl q
      · exact Or.inr ⟨q.1, e.mp q.2⟩
    · rcases q with q | q
      · omega
      · rcases q.2 with q | q
        · exact Or.inl q
        · exact Or.inr ⟨q.1, e.mpr q.2⟩
theorem ez_prs {x : Nat} (h : ¬ (x + 1) % 16 = 0) : ez_pr tx (x + 1) = tx (ez_at x) := by
  have e : ez_at (x + 1) - 1 = ez_at x := by unfold ez_at; omega
  unfold ez_pr
  rw [if_neg h, e]
theorem ez_pr0 {x : Nat} (h : x % 16 = 0) : ez_pr tx x = 4 + x / 16 := by unfold ez_pr; rw [if_pos h]
theorem ez_prlt (hT : ez_T tx le) {x : Nat} (h : ¬ x % 16 = 0) : ez_pr tx x < 4 := by unfold ez_pr; rw [if_neg h]; exact hT.1 _
theorem ez_EnS (hT : ez_T tx le) {x : Nat} (hx : x < 95) : (ez_En le x ∧ 0 < ez_sz le x) ↔ (ez_En le (x + 1) ∧ ¬ (x + 1) % 16 = 0) := by
  have h9 := hT.2 (x / 16)
  unfold ez_En ez_sz
  by_cases z : (x + 1) % 16 = 0
  · have e : x % 16 = 15 := by omega
    refine ⟨fun h => ?_, fun h => absurd z h.2⟩
    have := h.2
    omega
  · have e1 : (x + 1) / 16 = x / 16 := by omega
    have e2 : (x + 1) % 16 = x % 16 + 1 := by omega
    rw [e1, e2]
    generalize le (x / 16) = m at *
    omega
/-- the law of one letter more in front -/
theorem ez_LF (hT : ez_T tx le) {S D : Nat → Prop} {c : Nat} (hc : c < 4)
    (hS : ∀ x, x < 95 → ((S x ∧ 0 < ez_sz le x ∧ (tx (ez_at x) < c ∨ (tx (ez_at x) = c ∧ D (x + 1)))) ↔ (S (x + 1) ∧ (ez_pr tx (x + 1) < c ∨ (ez_pr tx (x + 1) = c ∧ D (x + 1)))))) :
    ez_c (fun x => S x ∧ (ez_sz le x = 0 ∨ (0 < ez_sz le x ∧ (tx (ez_at x) < c ∨ (tx (ez_at x) = c ∧ D (x + 1)))))) 96
      = ez_c (fun x => S x ∧ ez_sz le x = 0) 96 + (ez_c (fun y => S y ∧ ez_pr tx y < c) 96 + ez_c (fun y => S y ∧ D y ∧ ez_pr tx y = c) 96) := by
  have e1 : ez_c (fun x => S x ∧ (ez_sz le x = 0 ∨ (0 < ez_sz le x ∧ (tx (ez_at x) < c ∨ (tx (ez_at x) = c ∧ D (x + 1)))))) 96
      = ez_c (fun x => S x ∧ ez_sz le x = 0) 96 + ez_c (fun x => S x ∧ 0 < ez_sz le x ∧ (tx (ez_at x) < c ∨ (tx (ez_at x) = c ∧ D (x + 1)))) 96 := by
    rw [← ez_cor (P := fun x => S x ∧ ez_sz le x = 0) (Q := fun x => S x ∧ 0 < ez_sz le x ∧ (tx (ez_at x) < c ∨ (tx (ez_at x) = c ∧ D (x + 1)))) (fun k _ a b => by have := a.2; have := b.2.1; omega)]
    refine ez_ceq fun k _ => ⟨fun h => ?_, fun h => ?_⟩
    · rcases h.2 with z | z
      · exact Or.inl ⟨h.1, z⟩
      · exact Or.inr ⟨h.1, z⟩
    · rcases h with z | z
      · exact ⟨z.1, Or.inl z.2⟩
      · exact ⟨z.1, Or.inr z.2⟩
  have e2 : ez_c (fun y => S y ∧ (ez_pr tx y < c ∨ (ez_pr tx y = c ∧ D y))) 96 = ez_c (fun y => S y ∧ ez_pr tx y < c) 96 + ez_c (fun y => S y ∧ D y ∧ ez_pr tx y = c) 96 := by
    rw [← ez_cor (P := fun y => S y ∧ ez_pr tx y < c) (Q := fun y => S y ∧ D y ∧ ez_pr tx y = c) (fun k _ a b => by have := a.2; have := b.2.2; omega)]
    refine ez_ceq fun k _ => ⟨fun h => ?_, fun h => ?_⟩
    · rcases h.2 with z | z
      · exact Or.inl ⟨h.1, z⟩
      · exact Or.inr ⟨h.1, z.2, z.1⟩
    · rcases h with z | z
      · exact ⟨z.1, Or.inl z.2⟩
      · exact ⟨z.1, Or.inr ⟨z.2.2, z.2.1⟩⟩
  have e3 : ez_c (fun x => S x ∧ 0 < ez_sz le x ∧ (tx (ez_at x) < c ∨ (tx (ez_at x) = c ∧ D (x + 1)))) (95 + 1) = ez_c (fun y => S y ∧ (ez_pr tx y < c ∨ (ez_pr tx y = c ∧ D y))) (95 + 1) := by
    have n1 : ¬ (S 95 ∧ 0 < ez_sz le 95 ∧ (tx (ez_at 95) < c ∨ (tx (ez_at 95) = c ∧ D (95 + 1)))) := fun h => by
      have h1 := h.2.1
      have h9 := hT.2 5
      have e5 : ez_sz le 95 = le 5 - 15 := rfl
      omega
    have n2 : ¬ (S 0 ∧ (ez_pr tx 0 < c ∨ (ez_pr tx 0 = c ∧ D 0))) := fun h => by
      have e5 : ez_pr tx 0 = 4 + 0 / 16 := ez_pr0 rfl
      rcases h.2 with z | z
      · omega
      · have := z.1; omega
    rw [ez_csn (P := fun x => S x ∧ 0 < ez_sz le x ∧ (tx (ez_at x) < c ∨ (tx (ez_at x) = c ∧ D (x + 1)))) n1, ez_cshift (fun y => S y ∧ (ez_pr tx y < c ∨ (ez_pr tx y = c ∧ D y))), ez_bn n2, Nat.zero_add]
    exact ez_ceq hS
  rw [e1, ← e2]
  exact congrArg (fun z => ez_c (fun x => S x ∧ ez_sz le x = 0) 96 + z) e3
theorem ez_hSE (hT : ez_T tx le) {D : Nat → Prop} {c : Nat} (hc : c < 4) :
    ∀ x, x < 95 → ((ez_En le x ∧ 0 < ez_sz le x ∧ (tx (ez_at x) < c ∨ (tx (ez_at x) = c ∧ D (x + 1)))) ↔ (ez_En le (x + 1) ∧ (ez_pr tx (x + 1) < c ∨ (ez_pr tx (x + 1) = c ∧ D (x + 1))))) := by
  refine fun x hx => ⟨fun h => ?_, fun h => ?_⟩
  · have g := (ez_EnS hT hx).mp ⟨h.1, h.2.1⟩
    rw [ez_prs g.2]
    exact ⟨g.1, h.2.2⟩
  · have ne : ¬ (x + 1) % 16 = 0 := fun z => by
      have e5 : ez_pr tx (x + 1) = 4 + (x + 1) / 16 := ez_pr0 z
      rcases h.2 with q | q
      · omega
      · have := q.1; omega
    have g := (ez_EnS hT hx).mpr ⟨h.1, ne⟩
    have h2 := h.2
    rw [ez_prs ne] at h2
    exact ⟨g.1, g.2, h2⟩
theorem ez_LFE (hT : ez_T tx le) {D : Nat → Prop} {c : Nat} (hc : c < 4) :
    ez_c (fun x => ez_En le x ∧ (ez_sz le x = 0 ∨ (0 < ez_sz le x ∧ (tx (ez_at x) < c ∨ (tx (ez_at x) = c ∧ D (x + 1)))))) 96
      = ez_c (fun x => ez_En le x ∧ ez_sz le x = 0) 96 + (ez_c (fun y => ez_En le y ∧ ez_pr tx y < c) 96 + ez_c (fun y => ez_En le y ∧ D y ∧ ez_pr tx y = c) 96) :=
  ez_LF hT hc (ez_hSE hT hc)
theorem ez_cplus (P : Nat → Prop) (M : Nat) : ∀ N, ez_c P (M + N) = ez_c P M + ez_c (fun i => P (M + i)) N
  | 0 => rfl
  | N + 1 => by rw [← Nat.add_assoc, ez_cs, ez_cplus P M N, ez_cs (fun i => P (M + i))]; omega
theorem ez_clm {m : Nat} : ∀ {N : Nat}, m ≤ N → ez_c (fun i => i < m) N = m
  | 0, h => by show 0 = m; omega
  | N + 1, h => by
    by_cases z : N < m
    · have e : m = N + 1 := by omega
      rw [ez_cst (P := fun i => i < m) z, ez_ceq (P := fun i => i < m) (Q := fun _ => True) (fun k hk => ⟨fun _ => trivial, fun _ => by omega⟩), ez_call]; omega
    · rw [ez_csn (P := fun i => i < m) z]; exact ez_clm (by omega)
/-- sizes, slot by slot -/
theorem ez_cE (hT : ez_T tx le) {k : Nat} (hk : k < 6) : ez_c (ez_En le) (16 * (k + 1)) = ez_c (ez_En le) (16 * k) + (if 0 < le k then le k + 1 else 0) := by
  have h9 := hT.2 k
  rw [Nat.mul_succ, ez_cplus]
  congr 1
  by_cases z : 0 < le k
  · rw [if_pos z, ez_ceq (Q := fun i => i < le k + 1) (fun i hi => ?_), ez_clm (by omega)]
    have e1 : (16 * k + i) / 16 = k := by omega
    have e2 : (16 * k + i) % 16 = i := by omega
    unfold ez_En
    rw [e1, e2]
    omega
  · rw [if_neg z]
    refine ez_c0 fun i hi h => z ?_
    have e1 : (16 * k + i) / 16 = k := by omega
    have h2 := h.2.1
    rw [e1] at h2
    exact h2
theorem ez_size (hT : ez_T tx le) : ez_c (ez_En le) 96 ≤ 60 := by
  have key : ∀ k, k ≤ 6 → ez_c (ez_En le) (16 * k) ≤ 10 * k := by
    intro k
    induction k with
    | zero => intro _; exact Nat.le_refl 0
    | succ k ih =>
      intro hk
      have h9 := hT.2 k
      have i := ih (by omega)
      rw [ez_cE hT (by omega)]
      by_cases z : 0 < le k
      · rw [if_pos z]; omega
      · rw [if_neg z]; omega
  exact key 6 (by omega)
theorem ez_c0s (hT : ez_T tx le) : ∀ k, k ≤ 6 → ez_c (fun x => ez_En le x ∧ ez_sz le x = 0) (16 * k) = ez_c (fun s => 0 < le s) k := by
  intro k
  induction k with
  | zero => intro _; rfl
  | succ k ih =>
    intro hk
    have h9 := hT.2 k
    rw [Nat.mul_succ, ez_cplus, ih (by omega), ez_cs (fun s => 0 < le s)]
    congr 1
    have key : ∀ i, i < 16 → ((ez_En le (16 * k + i) ∧ ez_sz le (16 * k + i) = 0) ↔ (0 < le k ∧ i = le k)) := by
      intro i hi
      have e1 : (16 * k + i) / 16 = k := by omega
      have e2 : (16 * k + i) % 16 = i := by omega
      unfold ez_En ez_sz
      rw [e1, e2]
      omega
    rw [ez_ceq key]
    by_cases z : 0 < le k
    · rw [ez_bt z, ez_ceq (Q := fun i => i = le k) (fun i _ => ⟨And.right, fun h => ⟨z, h⟩⟩), ez_cone (by omega)]
    · rw [ez_bn z]
      exact ez_c0 fun i _ h => z h.1
theorem ez_texts (hT : ez_T tx le) : ez_c (fun x => ez_En le x ∧ ez_sz le x = 0) 96 = ez_c (fun s => 0 < le s) 6 := ez_c0s hT 6 (Nat.le_refl 6)
/-- the rank of an empty ending -/
theorem ez_rk0 (hT : ez_T tx le) {S : Nat → Prop} {s : Nat} (hs : s < 6) (hE : ∀ x, x < 16 * s → (S x ∧ ez_sz le x = 0 ↔ ez_En le x ∧ ez_sz le x = 0)) :
    ez_rk (ez_B tx le) S (16 * s + le s) = ez_c (fun k => 0 < le k) s := by
  have h9 := hT.2 s
  have e1 : (16 * s + le s) / 16 = s := by omega
  have e2 : (16 * s + le s) % 16 = le s := by omega
  have e0 : ez_sz le (16 * s + le s) = 0 := by unfold ez_sz; rw [e1, e2]; omega
  unfold ez_rk
  rw [ez_cext (P := fun x => S x ∧ ez_B tx le x (16 * s + le s)) (M := 16 * s) (N := 96) (by omega) (fun k a b h => ?_), ← ez_c0s hT s (by omega)]
  · refine ez_ceq fun x hx => ⟨fun h => ?_, fun h => ?_⟩
    · exact (hE x hx).mp ⟨h.1, ((ez_B0 hT e0).mp h.2).1⟩
    · have g := (hE x hx).mpr h
      exact ⟨g.1, (ez_B0 hT e0).mpr ⟨g.2, by omega⟩⟩
  · have g := (ez_B0 hT e0).mp h.2
    have e3 : k / 16 = s := by omega
    have g1 := g.1
    unfold ez_sz at g1
    rw [e3] at g1
    omega
/-- the rank one letter in front -/
theorem ez_rkstep (hT : ez_T tx le) {S : Nat → Prop} {e : Nat} (h : 0 < ez_sz le e)
    (hS : ∀ x, x < 95 → ((S x ∧ 0 < ez_sz le x ∧ (tx (ez_at x) < tx (ez_at e) ∨ (tx (ez_at x) = tx (ez_at e) ∧ ez_B tx le (x + 1) (e + 1)))) ↔ (S (x + 1) ∧ (ez_pr tx (x + 1) < tx (ez_at e) ∨ (ez_pr tx (x + 1) = tx (ez_at e) ∧ ez_B tx le (x + 1) (e + 1)))))) :
    ez_rk (ez_B tx le) S e = ez_c (fun x => S x ∧ ez_sz le x = 0) 96 + (ez_c (fun y => S y ∧ ez_pr tx y < tx (ez_at e)) 96 + ez_c (fun y => S y ∧ ez_B tx le y (e + 1) ∧ ez_pr tx y = tx (ez_at e)) 96) := by
  rw [← ez_LF hT (D := fun y => ez_B tx le y (e + 1)) (hT.1 (ez_at e)) hS]
  unfold ez_rk
  exact ez_ceq fun x _ => ⟨fun q => ⟨q.1, (ez_Bs hT h).mp q.2⟩, fun q => ⟨q.1, (ez_Bs hT h).mpr q.2⟩⟩
end
end
section
/-! patterns: below, at the begin, below or at the begin -/
def ez_bl : List Nat → List Nat → Prop
  | [], _ => False
  | _ :: _, [] => True
  | b :: P, a :: x => a < b ∨ (a = b ∧ ez_bl P x)
def ez_bp : List Nat → List Nat → Prop
  | [], _ => True
  | _ :: _, [] => True
  | b :: P, a :: x => a < b ∨ (a = b ∧ ez_bp P x)
def ez_px : List Nat → List Nat → Prop
  | [], _ => True
  | _ :: _, [] => False
  | b :: P, a :: x => a = b ∧ ez_px P x
theorem ez_bpi : ∀ P x, ez_bp P x ↔ (ez_bl P x ∨ ez_px P x)
  | [], _ => ⟨fun _ => Or.inr trivial, fun _ => trivial⟩
  | _ :: _, [] => ⟨fun _ => Or.inl trivial, fun _ => trivial⟩
  | b :: P, a :: x => by
    have ih := ez_bpi P x
    refine ⟨fun h => ?_, fun h => ?_⟩
    · rcases h with h | h
      · exact Or.inl (Or.inl h)
      · rcases ih.mp h.2 with g | g
        · exact Or.inl (Or.inr ⟨h.1, g⟩)
        · exact Or.inr ⟨h.1, g⟩
    · rcases h with h | h
      · rcases h with h | h
        · exact Or.inl h
        · exact Or.inr ⟨h.1, ih.mpr (Or.inl h.2)⟩
      · exact Or.inr ⟨h.1, ih.mpr (Or.inr h.2)⟩
theorem ez_bld : ∀ P x, ez_bl P x → ¬ ez_px P x
  | [], _, h, _ => h
  | _ :: _, [], _, g => g
  | b :: P, a :: x, h, g => by
    rcases h with h | h
    · have := g.1; omega
    · exact ez_bld P x h.2 g.2
theorem ez_blo {p : Prop} : ∀ P x y, ez_lx x y p → ez_bl P y → ez_bl P x
  | [], _, _, _, g => g
  | _ :: _, [], _, _, _ => trivial
  | _ :: _, _ :: _, [], h, _ => False.elim h
  | c :: P, a :: x, b :: y, h, g => by
    rcases g with g | g
    · rcases h with h | h
      · exact Or.inl (by omega)
      · exact Or.inl (by have := h.1; omega)
    · rcases h with h | h
      · exact Or.inl (by have := g.1; omega)
      · exact Or.inr ⟨h.1.trans g.1, ez_blo P x y h.2 g.2⟩
theorem ez_bpo {p : Prop} : ∀ P x y, ez_lx x y p → ez_bp P y → ez_bp P x
  | [], _, _, _, g => g
  | _ :: _, [], _, _, _ => trivial
  | _ :: _, _ :: _, [], h, _ => False.elim h
  | c :: P, a :: x, b :: y, h, g => by
    rcases g with g | g
    · rcases h with h | h
      · exact Or.inl (by omega)
      · exact Or.inl (by have := h.1; omega)
    · rcases h with h | h
      · exact Or.inl (by have := g.1; omega)
      · exact Or.inr ⟨h.1.trans g.1, ez_bpo P x y h.2 g.2⟩
def ez_pl (q : Nat → Nat) : Nat → List Nat
  | 0 => []
  | k + 1 => q k :: ez_pl q k
theorem ez_plc {q q' : Nat → Nat} : ∀ k, (∀ i, i < k → q i = q' i) → ez_pl q k = ez_pl q' k
  | 0, _ => rfl
  | k + 1, h => by
    show q k :: ez_pl q k = q' k :: ez_pl q' k
    rw [h k (by omega), ez_plc k (fun i hi => h i (by omega))]
noncomputable def ez_lo (tx le : Nat → Nat) (P : List Nat) : Nat := ez_c (fun x => ez_En le x ∧ ez_bl P (ez_ct tx le x)) 96
noncomputable def ez_hi (tx le : Nat → Nat) (P : List Nat) : Nat := ez_c (fun x => ez_En le x ∧ ez_bp P (ez_ct tx le x)) 96
/-- the places lo .. hi of the row are the endings at which P stands -/
def ez_Rg (tx le : Nat → Nat) (P : List Nat) (lo hi : Nat) : Prop :=
  lo ≤ hi ∧ hi ≤ ez_c (ez_En le) 96 ∧ ∀ x, ez_En le x → (ez_px P (ez_ct tx le x) ↔ (lo ≤ ez_rk (ez_B tx le) (ez_En le) x ∧ ez_rk (ez_B tx le) (ez_En le) x < hi))
section
variable {tx le : Nat → Nat}
theorem ez_blc (hT : ez_T tx le) (P : List Nat) (c x : Nat) : ez_bl (c :: P) (ez_ct tx le x) ↔ (ez_sz le x = 0 ∨ (0 < ez_sz le x ∧ (tx (ez_at x) < c ∨ (tx (ez_at x) = c ∧ ez_bl P (ez_ct tx le (x + 1)))))) := by
  rcases Nat.eq_zero_or_pos (ez_sz le x) with z | z
  · rw [ez_ct0 z]
    exact ⟨fun _ => Or.inl z, fun _ => trivial⟩
  · rw [ez_cts hT z]
    refine ⟨fun q => Or.inr ⟨z, q⟩, fun q => ?_⟩
    rcases q with q | q
    · omega
    · exact q.2
theorem ez_bpc (hT : ez_T tx le) (P : List Nat) (c x : Nat) : ez_bp (c :: P) (ez_ct tx le x) ↔ (ez_sz le x = 0 ∨ (0 < ez_sz le x ∧ (tx (ez_at x) < c ∨ (tx (ez_at x) = c ∧ ez_bp P (ez_ct tx le (x + 1)))))) := by
  rcases Nat.eq_zero_or_pos (ez_sz le x) with z | z
  · rw [ez_ct0 z]
    exact ⟨fun _ => Or.inl z, fun _ => trivial⟩
  · rw [ez_cts hT z]
    refine ⟨fun q => Or.inr ⟨z, q⟩, fun q => ?_⟩
    rcases q with q | q
    · omega
    · exact q.2
theorem ez_pxc (hT : ez_T tx le) (P : List Nat) (c x : Nat) : ez_px (c :: P) (ez_ct tx le x) ↔ (0 < ez_sz le x ∧ tx (ez_at x) = c ∧ ez_px P (ez_ct tx le (x + 1))) := by
  rcases Nat.eq_zero_or_pos (ez_sz le x) with z | z
  · rw [ez_ct0 z]
    exact ⟨fun q => False.elim q, fun q => by have := q.1; omega⟩
  · rw [ez_cts hT z]
    exact ⟨fun q => ⟨z, q⟩, fun q => q.2⟩
theorem ez_lo0 : ez_lo tx le [] = 0 := ez_c0 fun _ _ h => h.2
theorem ez_hi0 : ez_hi tx le [] = ez_c (ez_En le) 96 := ez_ceq fun _ _ => ⟨And.left, fun h => ⟨h, trivial⟩⟩
theorem ez_los (hT : ez_T tx le) {c : Nat} (hc : c < 4) (P : List Nat) : ez_lo tx le (c :: P) = ez_c (fun x => ez_En le x ∧ ez_sz le x = 0) 96 + (ez_c (fun y => ez_En le y ∧ ez_pr tx y < c) 96 + ez_c (fun y => ez_En le y ∧ ez_bl P (ez_ct tx le y) ∧ ez_pr tx y = c) 96) := by
  rw [← ez_LFE hT (D := fun y => ez_bl P (ez_ct tx le y)) hc]
  exact ez_ceq fun x _ => ⟨fun q => ⟨q.1, (ez_blc hT P c x).mp q.2⟩, fun q => ⟨q.1, (ez_blc hT P c x).mpr q.2⟩⟩
theorem ez_his (hT : ez_T tx le) {c : Nat} (hc : c < 4) (P : List Nat) : ez_hi tx le (c :: P) = ez_c (fun x => ez_En le x ∧ ez_sz le x = 0) 96 + (ez_c (fun y => ez_En le y ∧ ez_pr tx y < c) 96 + ez_c (fun y => ez_En le y ∧ ez_bp P (ez_ct tx le y) ∧ ez_pr tx y = c) 96) := by
  rw [← ez_LFE hT (D := fun y => ez_bp P (ez_ct tx le y)) hc]
  exact ez_ceq fun x _ => ⟨fun q => ⟨q.1, (ez_bpc hT P c x).mp q.2⟩, fun q => ⟨q.1, (ez_bpc hT P c x).mpr q.2⟩⟩
theorem ez_loD (P : List Nat) : ∀ x y, x < 96 → y < 96 → ez_En le x → ez_En le y → ez_B tx le x y → ez_bl P (ez_ct tx le y) → ez_bl P (ez_ct tx le x) :=
  fun _ _ _ _ _ _ h g => ez_blo P _ _ h g
theorem ez_hiD (P : List Nat) : ∀ x y, x < 96 → y < 96 → ez_En le x → ez_En le y → ez_B tx le x y → ez_bp P (ez_ct tx le y) → ez_bp P (ez_ct tx le x) :=
  fun _ _ _ _ _ _ h g => ez_bpo P _ _ h g
theorem ez_lole (hT : ez_T tx le) (P : List Nat) : ez_lo tx le P ≤ ez_c (ez_En le) 96 := ez_cmono fun _ _ h => h.1
theorem ez_hile (hT : ez_T tx le) (P : List Nat) : ez_hi tx le P ≤ ez_c (ez_En le) 96 := ez_cmono fun _ _ h => h.1
theorem ez_rg (hT : ez_T tx le) (P : List Nat) : ez_Rg tx le P (ez_lo tx le P) (ez_hi tx le P) := by
  refine ⟨ez_cmono (fun _ _ h => ⟨h.1, (ez_bpi P _).mpr (Or.inl h.2)⟩), ez_hile hT P, fun x hx => ?_⟩
  have a := ez_cut (ez_BLO tx le) (S := ez_En le) (ez_loD (tx := tx) P) hx.1 hx
  have b := ez_cut (ez_BLO tx le) (S := ez_En le) (ez_hiD (tx := tx) P) hx.1 hx
  have c := ez_bpi P (ez_ct tx le x)
  have d := ez_bld P (ez_ct tx le x)
  refine ⟨fun h => ⟨?_, b.mp (c.mpr (Or.inr h))⟩, fun h => ?_⟩
  · by_cases z : ez_lo tx le P ≤ ez_rk (ez_B tx le) (ez_En le) x
    · exact z
    · exact absurd h (d (a.mpr (by unfold ez_lo at z; omega)))
  · rcases c.mp (b.mpr h.2) with z | z
    · have g := a.mp z
      have h1 := h.1
      unfold ez_lo at h1
      omega
    · exact z
theorem ez_rgs (hT : ez_T tx le) {P : List Nat} {lo hi : Nat} (h : ez_Rg tx le P lo hi) (hl : hi ≤ lo) (c : Nat) : ez_Rg tx le (c :: P) lo hi := by
  refine ⟨h.1, h.2.1, fun x hx => ⟨fun g => ?_, fun g => by omega⟩⟩
  have q := (ez_pxc hT P c x).mp g
  have x95 : x < 95 := by
    have h1 := hx.1
    have h2 := q.1
    have h9 := hT.2 (x / 16)
    unfold ez_sz at h2
    omega
  have e := (ez_EnS hT x95).mp ⟨hx, q.1⟩
  have r := (h.2.2 (x + 1) e.1).mp q.2.2
  omega
theorem ez_rgl (hT : ez_T tx le) {q : Nat → Nat} {lo hi i : Nat} (h : ez_Rg tx le (ez_pl q i) lo hi) (hl : hi ≤ lo) : ∀ k, i ≤ k → ez_Rg tx le (ez_pl q k) lo hi := by
  intro k
  induction k with
  | zero => intro hk; have e : i = 0 := by omega
            rw [e] at h; exact h
  | succ k ih =>
    intro hk
    by_cases z : i = k + 1
    · rw [← z]; exact h
    · exact ez_rgs hT (ih (by omega)) hl (q k)
theorem ez_rgc {P : List Nat} {lo hi : Nat} (h : ez_Rg tx le P lo hi) : ez_c (fun x => ez_En le x ∧ ez_px P (ez_ct tx le x)) 96 = hi - lo := by
  rw [← ez_clo lo hi, ez_tr (ez_BLO tx le) (S := ez_En le) (Q := fun r => lo ≤ r) (Q' := fun y => lo ≤ ez_rk (ez_B tx le) (ez_En le) y) (fun e _ _ => Iff.rfl) hi h.2.1]
  refine ez_ceq fun x _ => ⟨fun q => ?_, fun q => ?_⟩
  · have g := (h.2.2 x q.1).mp q.2
    exact ⟨q.1, g.2, g.1⟩
  · exact ⟨q.1, (h.2.2 x q.1).mpr ⟨q.2.2, q.2.1⟩⟩
theorem ez_rgb {P : List Nat} {lo hi x : Nat} (h : ez_Rg tx le P lo hi) (hx : ez_En le x) (hp : ez_px P (ez_ct tx le x)) :
    ez_c (fun o => (ez_En le o ∧ ez_px P (ez_ct tx le o)) ∧ ez_B tx le o x) 96 = ez_rk (ez_B tx le) (ez_En le) x - lo := by
  have rx := (h.2.2 x hx).mp hp
  rw [← ez_clo lo (ez_rk (ez_B tx le) (ez_En le) x), ez_tr (ez_BLO tx le) (S := ez_En le) (Q := fun r => lo ≤ r) (Q' := fun y => lo ≤ ez_rk (ez_B tx le) (ez_En le) y) (fun e _ _ => Iff.rfl) _ (ez_rkle x)]
  refine ez_ceq fun y _ => ⟨fun q => ?_, fun q => ?_⟩
  · have g := (h.2.2 y q.1.1).mp q.1.2
    exact ⟨q.1.1, (ez_rkiff (ez_BLO tx le) q.1.1.1 q.1.1 hx.1 hx).mpr q.2, g.1⟩
  · exact ⟨⟨q.1, (h.2.2 y q.1).mpr ⟨q.2.2, by have := q.2.1; omega⟩⟩, (ez_rkiff (ez_BLO tx le) q.1.1 q.1 hx.1 hx).mp q.2.1⟩
end
end
section
/-! what an ending shares with the earlier ones: the sum, and the most, don't depend on the order -/
def ez_M (f : Nat → Nat → Nat) : List Nat → Nat → Nat
  | [], _ => 0
  | o :: l, x => max (f o x) (ez_M f l x)
def ez_H (f : Nat → Nat → Nat) : List Nat → Nat
  | [] => 0
  | x :: l => ez_M f l x + ez_H f l
def ez_K (f : Nat → Nat → Nat) : List Nat → Nat
  | [] => 0
  | x :: l => max (ez_M f l x) (ez_K f l)
theorem ez_Mp {f : Nat → Nat → Nat} {l m : List Nat} (h : l.Perm m) (x : Nat) : ez_M f l x = ez_M f m x := by
  induction h with
  | nil => rfl
  | cons a _ ih =>
    show max _ _ = max _ _
    rw [ih]
  | swap a b l =>
    show max _ (max _ _) = max _ (max _ _)
    omega
  | trans _ _ i j => exact i.trans j
theorem ez_Mu {f : Nat → Nat → Nat} (hu : ∀ a b c k, k ≤ f a b → k ≤ f b c → k ≤ f a c) {a b : Nat} : ∀ (l : List Nat) (k : Nat), k ≤ ez_M f l a → k ≤ f a b → k ≤ ez_M f l b
  | [], _, h, _ => h
  | o :: l, k, h, g => by
    have h' : k ≤ max (f o a) (ez_M f l a) := h
    show k ≤ max (f o b) (ez_M f l b)
    by_cases z : k ≤ f o a
    · have := hu o a b k z g; omega
    · have := ez_Mu hu l k (by omega) g; omega
theorem ez_Hp {f : Nat → Nat → Nat} (hs : ∀ a b, f a b = f b a) (hu : ∀ a b c k, k ≤ f a b → k ≤ f b c → k ≤ f a c) {l m : List Nat} (h : l.Perm m) : ez_H f l = ez_H f m := by
  induction h with
  | nil => rfl
  | cons a p ih =>
    show _ + _ = _ + _
    rw [ih, ez_Mp p]
  | swap a b l =>
    show max (f a b) (ez_M f l b) + (ez_M f l a + ez_H f l) = max (f b a) (ez_M f l a) + (ez_M f l b + ez_H f l)
    have s := hs a b
    have u := ez_Mu hu (a := a) (b := b) l (min (ez_M f l a) (f a b)) (by omega) (by omega)
    have v := ez_Mu hu (a := b) (b := a) l (min (ez_M f l b) (f b a)) (by omega) (by omega)
    omega
  | trans _ _ i j => exact i.trans j
theorem ez_Kp {f : Nat → Nat → Nat} (hs : ∀ a b, f a b = f b a) {l m : List Nat} (h : l.Perm m) : ez_K f l = ez_K f m := by
  induction h with
  | nil => rfl
  | cons a p ih =>
    show max _ _ = max _ _
    rw [ih, ez_Mp p]
  | swap a b l =>
    show max (max (f a b) (ez_M f l b)) (max (ez_M f l a) (ez_K f l)) = max (max (f b a) (ez_M f l a)) (max (ez_M f l b) (ez_K f l))
    have s := hs a b
    omega
  | trans _ _ i j => exact i.trans j
noncomputable def ez_ds (S : Nat → Prop) : Nat → List Nat
  | 0 => []
  | i + 1 => @ite (List Nat) (S i) (Classical.propDecidable (S i)) (i :: ez_ds S i) (ez_ds S i)
theorem ez_dst {S : Nat → Prop} {i : Nat} (h : S i) : ez_ds S (i + 1) = i :: ez_ds S i := if_pos h
theorem ez_dsn {S : Nat → Prop} {i : Nat} (h : ¬ S i) : ez_ds S (i + 1) = ez_ds S i := if_neg h
theorem ez_dsm {S : Nat → Prop} : ∀ {N x : Nat}, x ∈ ez_ds S N ↔ (x < N ∧ S x)
  | 0, x => ⟨fun h => absurd h (List.not_mem_nil), fun h => absurd h.1 (Nat.not_lt_zero x)⟩
  | N + 1, x => by
    have ih := ez_dsm (S := S) (N := N) (x := x)
    by_cases z : S N
    · rw [ez_dst z, List.mem_cons, ih]
      refine ⟨fun o => ?_, fun o => ?_⟩
      · rcases o with o | o
        · exact ⟨by omega, o ▸ z⟩
        · exact ⟨by omega, o.2⟩
      · by_cases e : x = N
        · exact Or.inl e
        · exact Or.inr ⟨by omega, o.2⟩
    · rw [ez_dsn z, ih]
      refine ⟨fun o => ⟨by omega, o.2⟩, fun o => ⟨?_, o.2⟩⟩
      by_cases e : x = N
      · rw [e] at o; exact absurd o.2 z
      · omega
theorem ez_dsd {S : Nat → Prop} : ∀ N, (ez_ds S N).Nodup
  | 0 => List.nodup_nil
  | N + 1 => by
    by_cases z : S N
    · rw [ez_dst z, List.nodup_cons]
      exact ⟨fun h => by have := (ez_dsm.mp h).1; omega, ez_dsd N⟩
    · rw [ez_dsn z]; exact ez_dsd N
def ez_ls (e : Nat → Nat) : Nat → List Nat
  | 0 => []
  | r + 1 => e r :: ez_ls e r
theorem ez_lsm {e : Nat → Nat} : ∀ {n x : Nat}, x ∈ ez_ls e n ↔ ∃ r, r < n ∧ e r = x
  | 0, x => ⟨fun h => absurd h (List.not_mem_nil), fun ⟨r, h, _⟩ => absurd h (Nat.not_lt_zero r)⟩
  | n + 1, x => by
    show x ∈ e n :: ez_ls e n ↔ _
    rw [List.mem_cons, ez_lsm (n := n)]
    refine ⟨fun o => ?_, fun ⟨r, hr, h⟩ => ?_⟩
    · rcases o with o | ⟨r, hr, h⟩
      · exact ⟨n, by omega, o.symm⟩
      · exact ⟨r, by omega, h⟩
    · by_cases z : r = n
      · rw [z] at h; exact Or.inl h.symm
      · exact Or.inr ⟨r, by omega, h⟩
theorem ez_lsd {e : Nat → Nat} : ∀ {n : Nat}, (∀ r s, r < n → s < n → e r = e s → r = s) → (ez_ls e n).Nodup
  | 0, _ => List.nodup_nil
  | n + 1, h => by
    show (e n :: ez_ls e n).Nodup
    rw [List.nodup_cons]
    refine ⟨fun g => ?_, ez_lsd (fun r s hr hs => h r s (by omega) (by omega))⟩
    obtain ⟨r, hr, q⟩ := ez_lsm.mp g
    have := h r n (by omega) (by omega) q
    omega
/-- in the order of the ranks the most is what the neighbour shares -/
theorem ez_Mls {f : Nat → Nat → Nat} {e : Nat → Nat} {x : Nat} : ∀ {n : Nat}, (∀ r, r < n → f (e r) x ≤ f (e n) x) → ez_M f (ez_ls e (n + 1)) x = f (e n) x
  | 0, _ => by show max (f (e 0) x) 0 = _; omega
  | n + 1, h => by
    show max (f (e (n + 1)) x) (ez_M f (ez_ls e (n + 1)) x) = f (e (n + 1)) x
    have key : ∀ m, m ≤ n + 1 → ez_M f (ez_ls e m) x ≤ f (e (n + 1)) x := by
      intro m
      induction m with
      | zero => intro _; exact Nat.zero_le _
      | succ m ih =>
        intro hm
        show max (f (e m) x) (ez_M f (ez_ls e m) x) ≤ _
        have a := ih (by omega)
        have b := h m (by omega)
        omega
    have := key (n + 1) (Nat.le_refl _)
    omega
section
variable {tx le : Nat → Nat}
def ez_f (tx le : Nat → Nat) (a b : Nat) : Nat := ez_lc (ez_ct tx le a) (ez_ct tx le b)
theorem ez_fs (a b : Nat) : ez_f tx le a b = ez_f tx le b a := ez_lcc _ _
theorem ez_fu (a b c k : Nat) : k ≤ ez_f tx le a b → k ≤ ez_f tx le b c → k ≤ ez_f tx le a c := ez_lcu _ _ _ k
/-- ranks to numbers -/
theorem ez_num (tx le : Nat → Nat) : ∃ e : Nat → Nat, ∀ r, r < ez_c (ez_En le) 96 → ez_En le (e r) ∧ ez_rk (ez_B tx le) (ez_En le) (e r) = r := by
  have h : ∀ r, ∃ x, r < ez_c (ez_En le) 96 → ez_En le x ∧ ez_rk (ez_B tx le) (ez_En le) x = r := by
    intro r
    by_cases z : r < ez_c (ez_En le) 96
    · obtain ⟨x, hx, hS, hr⟩ := ez_surj (ez_BLO tx le) (S := ez_En le) z
      exact ⟨x, fun _ => ⟨hS, hr⟩⟩
    · exact ⟨0, fun q => absurd q z⟩
  exact ⟨fun r => Classical.choose (h r), fun r => Classical.choose_spec (h r)⟩
theorem ez_perm {e : Nat → Nat} (he : ∀ r, r < ez_c (ez_En le) 96 → ez_En le (e r) ∧ ez_rk (ez_B tx le) (ez_En le) (e r) = r) :
    (ez_ds (ez_En le) 96).Perm (ez_ls e (ez_c (ez_En le) 96)) := by
  refine (List.perm_ext_iff_of_nodup (ez_dsd 96) (ez_lsd fun r s hr hs h => ?_)).mpr fun x => ?_
  · have a := (he r hr).2
    have b := (he s hs).2
    rw [h] at a
    exact a.symm.trans b
  · rw [ez_dsm, ez_lsm]
    refine ⟨fun h => ?_, fun ⟨r, hr, h⟩ => ?_⟩
    · have g := ez_rklt (ez_BLO tx le) (S := ez_En le) h.1 h.2
      exact ⟨_, g, ez_rkinj (ez_BLO tx le) (he _ g).1.1 (he _ g).1 h.1 h.2 (he _ g).2⟩
    · have g := (he r hr).1
      rw [h] at g
      exact ⟨g.1, g⟩
theorem ez_fls {e : Nat → Nat} (he : ∀ r, r < ez_c (ez_En le) 96 → ez_En le (e r) ∧ ez_rk (ez_B tx le) (ez_En le) (e r) = r) {n : Nat} (hn : n + 1 < ez_c (ez_En le) 96) :
    ez_M (ez_f tx le) (ez_ls e (n + 1)) (e (n + 1)) = ez_f tx le (e n) (e (n + 1)) := by
  refine ez_Mls fun r hr => ?_
  have h1 := he r (by omega)
  have h2 := he n (by omega)
  have h3 := he (n + 1) hn
  have b1 : ez_B tx le (e r) (e n) := (ez_rkiff (ez_BLO tx le) h1.1.1 h1.1 h2.1.1 h2.1).mp (by rw [h1.2, h2.2]; exact hr)
  have b2 : ez_B tx le (e n) (e (n + 1)) := (ez_rkiff (ez_BLO tx le) h2.1.1 h2.1 h3.1.1 h3.1).mp (by rw [h2.2, h3.2]; omega)
  exact ez_lco _ _ _ b1 b2
end
end
section
/-! X: counting in the row -/
def ez_XS (tx le : Nat → Nat) (S : Nat → Prop) (fs : Int32) (ar al : Nat → Int32) : Prop :=
  fs = nI (ez_c S 96) ∧ ez_c S 96 ≤ 60 ∧ (∀ s, s < 6 → al s = nI (le s)) ∧ (∀ e, e < 96 → S e → ar (ez_rk (ez_B tx le) S e) = nI (ez_pr tx e))
section
variable {fd fs fp fl fh : Int32} {ad ar al ap aq aw an : Nat → Int32} {tx le : Nat → Nat} {S : Nat → Prop} {post : Int32 → Prop}
theorem ez_Xtexts4 (hl : ∀ s, s < 6 → al s = nI (le s)) (h9 : ∀ j, le j ≤ 9) (h : post (nI (ez_c (fun s => 0 < le s) 6))) :
    ∀ d i, i + d = 6 → wX_texts_4 post fd fs fp fl fh ad ar al ap aq aw an (d + 1) (nI (ez_c (fun s => 0 < le s) i)) (nI i) := by
  intro d
  induction d with
  | zero =>
    intro i hi
    obtain rfl : i = 6 := by omega
    exact br_t (nI_le (a := 6) (b := 6) (by omega) (by omega)) h
  | succ d ih =>
    intro i hi
    have hi6 : i < 6 := by omega
    have W := ih (i + 1) (by omega)
    refine br_f (nI_ge (a := i) (b := 6) hi6 (by omega)) ⟨vp_in_nI hi6 (by omega), ?_⟩
    rw [nI_clamp (by omega), hl i hi6]
    have l9 := h9 i
    refine pk_le (le i) 0 (fun z => nm_r (nI_1 i) ?_) (fun z => nm_r (nI_1 _) (nm_r (nI_1 i) ?_))
    · rw [ez_csn (P := fun s => 0 < le s) (show ¬ 0 < le i by omega)] at W; exact W
    · rw [ez_cst (P := fun s => 0 < le s) z] at W; exact W
theorem ez_Xtexts (hl : ∀ s, s < 6 → al s = nI (le s)) (h9 : ∀ j, le j ≤ 9) (h : post (nI (ez_c (fun s => 0 < le s) 6))) : wpX_texts post (fd, fs, fp, fl, fh, ad, ar, al, ap, aq, aw, an) :=
  Exists.intro 7 (ez_Xtexts4 hl h9 h 6 0 rfl)
theorem ez_Xbelow4 (hl : ∀ s, s < 6 → al s = nI (le s)) (h9 : ∀ j, le j ≤ 9) {s : Nat} (hs : s ≤ 6) (h : post (nI (ez_c (fun s => 0 < le s) s))) :
    ∀ d i, i + d = s → wX_slotsBelow_4 post (nI s) fd fs fp fl fh ad ar al ap aq aw an (d + 1) (nI (ez_c (fun s => 0 < le s) i)) (nI i) := by
  intro d
  induction d with
  | zero =>
    intro i hi
    obtain rfl : i = s := by omega
    exact br_t (nI_le (Nat.le_refl i) (by omega)) h
  | succ d ih =>
    intro i hi
    have hi6 : i < 6 := by omega
    have W := ih (i + 1) (by omega)
    refine br_f (nI_ge (a := i) (b := s) (by omega) (by omega)) ⟨vp_in_nI hi6 (by omega), ?_⟩
    rw [nI_clamp (by omega), hl i hi6]
    have l9 := h9 i
    refine pk_le (le i) 0 (fun z => nm_r (nI_1 i) ?_) (fun z => nm_r (nI_1 _) (nm_r (nI_1 i) ?_))
    · rw [ez_csn (P := fun s => 0 < le s) (show ¬ 0 < le i by omega)] at W; exact W
    · rw [ez_cst (P := fun s => 0 < le s) z] at W; exact W
theorem ez_Xbelow (hl : ∀ s, s < 6 → al s = nI (le s)) (h9 : ∀ j, le j ≤ 9) {s : Nat} (hs : s ≤ 6) (h : post (nI (ez_c (fun s => 0 < le s) s))) : wpX_slotsBelow post (fd, fs, fp, fl, fh, ad, ar, al, ap, aq, aw, an) (nI s) :=
  Exists.intro (s + 1) (ez_Xbelow4 hl h9 hs h s 0 (by omega))
theorem ez_XupTo5 {v : Int32} {m : Nat} (hm : m ≤ 60) (h : post (nI (ez_c (fun r => ar r = v) m))) :
    ∀ d i, i + d = m → wX_upTo_5 post v (nI m) fd fs fp fl fh ad ar al ap aq aw an (d + 1) (nI (ez_c (fun r => ar r = v) i)) (nI i) := by
  intro d
  induction d with
  | zero =>
    intro i hi
    obtain rfl : i = m := by omega
    exact br_t (nI_le (Nat.le_refl i) (by omega)) h
  | succ d ih =>
    intro i hi
    have W := ih (i + 1) (by omega)
    refine br_f (nI_ge (a := i) (b := m) (by omega) (by omega)) ⟨vp_in_nI (by omega) (by omega), ?_⟩
    rw [nI_clamp (by omega)]
    refine br_c (fun z => nm_r (nI_1 _) (nm_r (nI_1 i) ?_)) (fun z => nm_r (nI_1 i) ?_)
    · rw [ez_cst (P := fun r => ar r = v) z] at W; exact W
    · rw [ez_csn (P := fun r => ar r = v) z] at W; exact W
theorem ez_XupTo {v : Int32} {m : Nat} (hm : m ≤ 60) (h : post (nI (ez_c (fun r => ar r = v) m))) : wpX_upTo post (fd, fs, fp, fl, fh, ad, ar, al, ap, aq, aw, an) v (nI m) :=
  Exists.intro (m + 1) (ez_XupTo5 hm h m 0 (by omega))
theorem ez_Xlesser7 {v : Int32} {m t : Nat} (hm : m ≤ 60) (h : post (nI (t + ez_c (fun r => ¬ v ≤ ar r) m))) :
    ∀ d i, i + d = m → wX_lesser_7 post v fd (nI m) fp fl fh ad ar al ap aq aw an (d + 1) (nI (t + ez_c (fun r => ¬ v ≤ ar r) i)) (nI i) := by
  intro d
  induction d with
  | zero =>
    intro i hi
    obtain rfl : i = m := by omega
    exact br_t (nI_le (Nat.le_refl i) (by omega)) h
  | succ d ih =>
    intro i hi
    have W := ih (i + 1) (by omega)
    refine br_f (nI_ge (a := i) (b := m) (by omega) (by omega)) ⟨vp_in_nI (by omega) (by omega), ?_⟩
    rw [nI_clamp (by omega)]
    refine br_c (fun z => nm_r (nI_1 i) ?_) (fun z => nm_r (nI_1 _) (nm_r (nI_1 i) ?_))
    · rw [ez_csn (P := fun r => ¬ v ≤ ar r) (fun q => q z)] at W; exact W
    · rw [ez_cst (P := fun r => ¬ v ≤ ar r) z] at W; exact W
theorem ez_Xlesser (hl : ∀ s, s < 6 → al s = nI (le s)) (h9 : ∀ j, le j ≤ 9) {v : Int32} {m : Nat} (hm : m ≤ 60)
    (h : post (nI (ez_c (fun s => 0 < le s) 6 + ez_c (fun r => ¬ v ≤ ar r) m))) : wpX_lesser post (fd, nI m, fp, fl, fh, ad, ar, al, ap, aq, aw, an) v := by
  unfold wpX_lesser
  dsimp only
  exact ez_Xtexts hl h9 (Exists.intro (m + 1) (ez_Xlesser7 hm h m 0 (by omega)))
theorem ez_Xstep0 (hl : ∀ s, s < 6 → al s = nI (le s)) (h9 : ∀ j, le j ≤ 9) {v : Int32} {m r : Nat} (hm : m ≤ 60) (hr : r ≤ 60)
    (h : post (nI (ez_c (fun s => 0 < le s) 6 + ez_c (fun r => ¬ v ≤ ar r) m + ez_c (fun r => ar r = v) r))) : wpX_step post (fd, nI m, fp, fl, fh, ad, ar, al, ap, aq, aw, an) v (nI r) := by
  unfold wpX_step
  dsimp only
  refine ez_Xlesser hl h9 hm (ez_XupTo hr ?_)
  rw [nI_add]
  exact h
/-- the row's counts are counts of endings -/
theorem ez_prB (hT : ez_T tx le) {e : Nat} (he : e < 96) : ez_pr tx e ≤ 9 := by
  by_cases z : e % 16 = 0
  · rw [ez_pr0 z]; omega
  · have := ez_prlt hT z; omega
theorem ez_Rlt (hT : ez_T tx le) (hX : ez_XS tx le S fs ar al) {c : Nat} (hc : c < 4) : ez_c (fun r => ¬ nI c ≤ ar r) (ez_c S 96) = ez_c (fun y => S y ∧ ez_pr tx y < c) 96 := by
  refine ez_trA (ez_BLO tx le) (S := S) (Q := fun r => ¬ nI c ≤ ar r) fun e he hS => ?_
  have b := ez_prB hT he
  rw [hX.2.2.2 e he hS, nI_leI (by omega) (by omega)]
  omega
theorem ez_Req (hT : ez_T tx le) (hX : ez_XS tx le S fs ar al) {c : Nat} (hc : c < 4) {D : Nat → Prop} (hD : ∀ x y, x < 96 → y < 96 → S x → S y → ez_B tx le x y → D y → D x) :
    ez_c (fun r => ar r = nI c) (ez_c (fun x => S x ∧ D x) 96) = ez_c (fun y => S y ∧ D y ∧ ez_pr tx y = c) 96 := by
  refine ez_trD (ez_BLO tx le) (S := S) (Q := fun r => ar r = nI c) (fun e he hS => ?_) hD
  have b := ez_prB hT he
  rw [hX.2.2.2 e he hS, nI_eq (by omega) (by omega)]
theorem ez_Xstep (hT : ez_T tx le) (hX : ez_XS tx le S fs ar al) {e : Nat} (h0 : 0 < ez_sz le e) (hE : ez_c (fun x => S x ∧ ez_sz le x = 0) 96 = ez_c (fun s => 0 < le s) 6)
    (hS : ∀ x, x < 95 → ((S x ∧ 0 < ez_sz le x ∧ (tx (ez_at x) < tx (ez_at e) ∨ (tx (ez_at x) = tx (ez_at e) ∧ ez_B tx le (x + 1) (e + 1)))) ↔ (S (x + 1) ∧ (ez_pr tx (x + 1) < tx (ez_at e) ∨ (ez_pr tx (x + 1) = tx (ez_at e) ∧ ez_B tx le (x + 1) (e + 1))))))
    (h : post (nI (ez_rk (ez_B tx le) S e))) : wpX_step post (fd, fs, fp, fl, fh, ad, ar, al, ap, aq, aw, an) (nI (tx (ez_at e))) (nI (ez_rk (ez_B tx le) S (e + 1))) := by
  have hc := hT.1 (ez_at e)
  have e1 := ez_rkstep hT h0 hS
  rw [hE, ← ez_Rlt hT hX hc, ← ez_Req hT hX hc (D := fun y => ez_B tx le y (e + 1)) (fun x y _ _ _ _ a b => (ez_BLO tx le).2.1 _ _ _ a b), ← Nat.add_assoc] at e1
  rw [e1] at h
  obtain ⟨x1, x2, x3, x4⟩ := hX
  subst x1
  exact ez_Xstep0 x3 hT.2 x2 (Nat.le_trans (ez_rkle (e + 1)) x2) h
theorem ez_XstepE (hT : ez_T tx le) (hX : ez_XS tx le (ez_En le) fs ar al) {e : Nat} (he : ez_En le (e + 1)) (hm : ¬ (e + 1) % 16 = 0)
    (h : post (nI (ez_rk (ez_B tx le) (ez_En le) e))) : wpX_step post (fd, fs, fp, fl, fh, ad, ar, al, ap, aq, aw, an) (nI (ez_pr tx (e + 1))) (nI (ez_rk (ez_B tx le) (ez_En le) (e + 1))) := by
  rw [ez_prs hm]
  have g := (ez_EnS hT (show e < 95 by have := he.1; omega)).mpr ⟨he, hm⟩
  exact ez_Xstep hT hX g.2 (ez_texts hT) (ez_hSE hT (D := fun y => ez_B tx le y (e + 1)) (hT.1 _)) h
end
end
section
/-! X: insert, delete, rankOf, numberOf -/
section
variable {fd fs fp fl fh : Int32} {ad ar al ap aq aw an : Nat → Int32} {tx le : Nat → Nat} {S : Nat → Prop} {post : Int32 → Prop} {postS : SX → Prop}
theorem ez_XSc {S' : Nat → Prop} (hS : ∀ x, x < 96 → (S x ↔ S' x)) (hX : ez_XS tx le S fs ar al) : ez_XS tx le S' fs ar al := by
  obtain ⟨x1, x2, x3, x4⟩ := hX
  have e : ez_c S 96 = ez_c S' 96 := ez_ceq hS
  refine ⟨e ▸ x1, e ▸ x2, x3, fun k hk h => ?_⟩
  rw [← ez_rkcongr (B := ez_B tx le) (e := k) hS (fun _ _ _ => Iff.rfl)]
  exact x4 k hk ((hS k hk).mpr h)
theorem ez_Xins5 {r n : Nat} {v : Int32} {ar0 : Nat → Int32} (hr : r ≤ n) (hn : n < 60)
    (h : ∀ ar', (∀ j, j < r → ar' j = ar0 j) → ar' r = v → (∀ j, r ≤ j → j < n → ar' (j + 1) = ar0 j) → postS (fd, nI (n + 1), fp, fl, fh, ad, ar', al, ap, aq, aw, an)) :
    ∀ d k ar, r + d = k → k ≤ n → (∀ j, j < k → ar j = ar0 j) → (∀ j, k ≤ j → j < n → ar (j + 1) = ar0 j) → wX_insert_5 postS (nI r) v fd (nI n) fp fl fh (d + 1) (nI k) ad ar al ap aq aw an := by
  intro d
  induction d with
  | zero =>
    intro k ar hk hkn h1 h2
    obtain rfl : r = k := by omega
    refine br_t (nI_le (Nat.le_refl r) (by omega)) (And.intro (vp_in_nI (by omega) (by omega)) (nm_e (nm_r (nI_1 n) (h _ ?_ ?_ ?_))))
    · intro j hj
      rw [nI_clamp (by omega), pk_un (by omega)]
      exact h1 j hj
    · rw [nI_clamp (by omega), pk_us]
    · intro j hj hjn
      rw [nI_clamp (by omega), pk_un (by omega)]
      exact h2 j hj hjn
  | succ d ih =>
    intro k ar hk hkn h1 h2
    obtain ⟨k', rfl⟩ : ∃ k', k = k' + 1 := ⟨k - 1, by omega⟩
    refine br_f (nI_ge (by omega) (by omega)) (And.intro ?_ (And.intro (vp_in_nI (by omega) (by omega)) (nm_e (nm_r (pk_m1 k') ?_))))
    · rw [nI_pred]; exact vp_in_nI (by omega) (by omega)
    · refine ih k' _ (by omega) (by omega) ?_ ?_
      · intro j hj
        rw [nI_clamp (by omega), pk_un (by omega)]
        exact h1 j (by omega)
      · intro j hj hjn
        rw [nI_clamp (by omega)]
        by_cases z : j = k'
        · subst z
          rw [pk_us, nI_pred, nI_clamp (by omega)]
          exact h1 j (by omega)
        · rw [pk_un (by omega)]
          exact h2 j (by omega) hjn
theorem ez_Xins (hT : ez_T tx le) (hX : ez_XS tx le S fs ar al) {e : Nat} (he : e < 96) (hS : ¬ S e) (hn : ez_c S 96 < 60)
    (h : ∀ ar', ez_XS tx le (fun y => S y ∨ y = e) (nI (ez_c S 96 + 1)) ar' al → postS (fd, nI (ez_c S 96 + 1), fp, fl, fh, ad, ar', al, ap, aq, aw, an)) :
    wpX_insert postS (fd, fs, fp, fl, fh, ad, ar, al, ap, aq, aw, an) (nI (ez_rk (ez_B tx le) S e)) (nI (ez_pr tx e)) := by
  obtain ⟨x1, x2, x3, x4⟩ := hX
  subst x1
  have hr : ez_rk (ez_B tx le) S e ≤ ez_c S 96 := ez_rkle e
  have hB := ez_BLO tx le
  refine Exists.intro (ez_c S 96 - ez_rk (ez_B tx le) S e + 1) (ez_Xins5 (ar0 := ar) hr hn (fun ar' h1 h2 h3 => h ar' ⟨?_, ?_, x3, fun x hx hs => ?_⟩) _ (ez_c S 96) ar (by omega) (Nat.le_refl _) (fun j _ => rfl) (fun j a b => by omega))
  · rw [ez_cadd hS he]
  · rw [ez_cadd hS he]; omega
  · rw [ez_rkadd he hS x]
    by_cases z : x = e
    · rw [z, ez_bn (hB.1 e)]; exact h2
    · have sx : S x := hs.elim id (fun q => absurd q z)
      rcases hB.2.2 x e z with b | b
      · have nb : ¬ ez_B tx le e x := fun q => hB.1 x (hB.2.1 _ _ _ b q)
        rw [ez_bn nb, Nat.add_zero, h1 _ (ez_rkmono hB hx sx b)]
        exact x4 x hx sx
      · rw [ez_bt b, h3 _ ?_ (ez_rklt hB hx sx)]
        · exact x4 x hx sx
        · exact ez_cmono (fun k _ q => ⟨q.1, hB.2.1 _ _ _ q.2 b⟩)
theorem ez_Xdel12 {r n : Nat} {ar0 : Nat → Int32} (hr : r ≤ n) (hn : n < 60)
    (h : ∀ ar', (∀ j, j < r → ar' j = ar0 j) → (∀ j, r ≤ j → j < n → ar' j = ar0 (j + 1)) → postS (fd, nI n, fp, fl, fh, ad, ar', al, ap, aq, aw, an)) :
    ∀ d k ar, k + d = n → r ≤ k → (∀ j, j < r → ar j = ar0 j) → (∀ j, r ≤ j → j < k → ar j = ar0 (j + 1)) → (∀ j, k ≤ j → j ≤ n → ar j = ar0 j) → wX_delete_12 postS fd (nI n) fp fl fh (d + 1) (nI k) ad ar al ap aq aw an := by
  intro d
  induction d with
  | zero =>
    intro k ar hk hrk h1 h2 h3
    obtain rfl : k = n := by omega
    exact br_t (nI_le (Nat.le_refl k) (by omega)) (h ar h1 h2)
  | succ d ih =>
    intro k ar hk hrk h1 h2 h3
    refine br_f (nI_ge (by omega) (by omega)) (And.intro ?_ (And.intro (vp_in_nI (by omega) (by omega)) (nm_e (nm_r (nI_1 k) ?_))))
    · rw [nI_1]; exact vp_in_nI (by omega) (by omega)
    · refine ih (k + 1) _ (by omega) (by omega) ?_ ?_ ?_
      · intro j hj
        rw [nI_clamp (by omega), pk_un (by omega)]
        exact h1 j hj
      · intro j hj hjk
        rw [nI_clamp (by omega)]
        by_cases z : j = k
        · subst z
          rw [pk_us, nI_1, nI_clamp (by omega)]
          exact h3 (j + 1) (by omega) (by omega)
        · rw [pk_un z]
          exact h2 j hj (by omega)
      · intro j hj hjn
        rw [nI_clamp (by omega), pk_un (by omega)]
        exact h3 j (by omega) hjn
theorem ez_Xdel (hT : ez_T tx le) (hX : ez_XS tx le S fs ar al) {e : Nat} (he : e < 96) (hS : S e)
    (h : ∀ ar', ez_XS tx le (fun y => S y ∧ y ≠ e) (nI (ez_c (fun y => S y ∧ y ≠ e) 96)) ar' al → postS (fd, nI (ez_c (fun y => S y ∧ y ≠ e) 96), fp, fl, fh, ad, ar', al, ap, aq, aw, an)) :
    wpX_delete postS (fd, fs, fp, fl, fh, ad, ar, al, ap, aq, aw, an) (nI (ez_rk (ez_B tx le) S e)) := by
  obtain ⟨x1, x2, x3, x4⟩ := hX
  subst x1
  have hB := ez_BLO tx le
  have cd := ez_cdel (S := S) he hS
  have hr := ez_rklt hB (S := S) he hS
  refine nm_r (e' := nI (ez_c (fun y => S y ∧ y ≠ e) 96)) (by rw [cd, nI_pred]) (Exists.intro (ez_c (fun y => S y ∧ y ≠ e) 96 - ez_rk (ez_B tx le) S e + 1) (ez_Xdel12 (ar0 := ar) (r := ez_rk (ez_B tx le) S e) (by omega) (by omega) (fun ar' h1 h2 => h ar' ⟨rfl, by omega, x3, fun x hx hs => ?_⟩) _ (ez_rk (ez_B tx le) S e) ar (by omega) (Nat.le_refl _) (fun _ _ => rfl) (fun j a b => by omega) (fun _ _ _ => rfl)))
  have rd := ez_rkdel (B := ez_B tx le) (S := S) he hS x
  rcases hB.2.2 x e hs.2 with b | b
  · have nb : ¬ ez_B tx le e x := fun q => hB.1 x (hB.2.1 _ _ _ b q)
    rw [ez_bn nb, Nat.add_zero] at rd
    rw [← rd, h1 _ (ez_rkmono hB hx hs.1 b)]
    exact x4 x hx hs.1
  · rw [ez_bt b] at rd
    have lt := ez_rkmono hB (S := S) he hS b
    have lx := ez_rklt hB (S := S) hx hs.1
    rw [h2 _ (by omega) (by omega), ← rd]
    exact x4 x hx hs.1
theorem ez_XrankOf14 (hT : ez_T tx le) (hX : ez_XS tx le (ez_En le) fs ar al) {s i : Nat} (hs : s < 6) (hl : 0 < le s) (h : post (nI (ez_rk (ez_B tx le) (ez_En le) (16 * s + i)))) :
    ∀ d k, i + d = k → k ≤ le s → wX_rankOf_14 post (nI i) fd fs fp fl fh ad ar al ap aq aw an (d + 1) (nI (ez_rk (ez_B tx le) (ez_En le) (16 * s + k))) (nI k) := by
  have l9 := hT.2 s
  intro d
  induction d with
  | zero =>
    intro k hk hkl
    obtain rfl : i = k := by omega
    exact br_t (nI_le (Nat.le_refl i) (by omega)) h
  | succ d ih =>
    intro k hk hkl
    obtain ⟨k', rfl⟩ : ∃ k', k = k' + 1 := ⟨k - 1, by omega⟩
    have e1 : (16 * s + k' + 1) / 16 = s := by omega
    have e2 : (16 * s + k' + 1) % 16 = k' + 1 := by omega
    have en : ez_En le (16 * s + k' + 1) := ⟨by omega, by rw [e1]; exact hl, by rw [e1, e2]; exact hkl⟩
    have rl := ez_rklt (ez_BLO tx le) (S := ez_En le) en.1 en
    have x2 := hX.2.1
    refine br_f (nI_ge (by omega) (by omega)) (And.intro (vp_in_nI (show ez_rk (ez_B tx le) (ez_En le) (16 * s + (k' + 1)) < 60 by rw [← Nat.add_assoc]; omega) (by omega)) ?_)
    rw [← Nat.add_assoc, nI_clamp (by omega), hX.2.2.2 _ en.1 en]
    exact ez_XstepE hT hX en (by omega) (nm_r (pk_m1 k') (ih k' (by omega) (by omega)))
theorem ez_rkB (hT : ez_T tx le) {s : Nat} (hs : s < 6) : ez_rk (ez_B tx le) (ez_En le) (16 * s + le s) = ez_c (fun k => 0 < le k) s := ez_rk0 hT hs (fun _ _ => Iff.rfl)
theorem ez_XrankOf (hT : ez_T tx le) (hX : ez_XS tx le (ez_En le) fs ar al) {s i : Nat} (hs : s < 6) (hl : 0 < le s) (hi : i ≤ le s) (h : post (nI (ez_rk (ez_B tx le) (ez_En le) (16 * s + i)))) :
    wpX_rankOf post (fd, fs, fp, fl, fh, ad, ar, al, ap, aq, aw, an) (nI s) (nI i) := by
  unfold wpX_rankOf
  dsimp only
  refine ez_Xbelow hX.2.2.1 hT.2 (by omega) (And.intro (vp_in_nI hs (by omega)) ?_)
  rw [nI_clamp (by omega), hX.2.2.1 s hs]
  refine nm_e (Exists.intro (le s - i + 1) ?_)
  rw [← ez_rkB hT hs]
  exact ez_XrankOf14 hT hX hs hl h _ (le s) (by omega) (Nat.le_refl _)
theorem ez_XnumberOf7 (hT : ez_T tx le) (hX : ez_XS tx le (ez_En le) fs ar al) {e : Nat} (h : post (nI e)) :
    ∀ d k, d + k = e % 16 → ez_En le e → wX_numberOf_7 post fd fs fp fl fh ad ar al ap aq aw an (d + 1) (nI (ez_rk (ez_B tx le) (ez_En le) (e - k))) (nI k) (nI k) := by
  intro d
  induction d with
  | zero =>
    intro k hk he
    have h3 := he.2.2
    have l9 := hT.2 (e / 16)
    have h96 := he.1
    have e0 : (e - k) % 16 = 0 := by omega
    have e1 : (e - k) / 16 = e / 16 := by omega
    have en : ez_En le (e - k) := ⟨by omega, by rw [e1]; exact he.2.1, by omega⟩
    have rl := ez_rklt (ez_BLO tx le) (S := ez_En le) en.1 en
    have x2 := hX.2.1
    have rw0 := hX.2.2.2 _ en.1 en
    rw [ez_pr0 e0, e1] at rw0
    have fin : wX_numberOf_45 post (nI (ez_rk (ez_B tx le) (ez_En le) (e - k))) (nI k) fd fs fp fl fh ad ar al ap aq aw an := by
      refine And.intro (vp_in_nI (by omega) (by omega)) ?_
      rw [nI_clamp (by omega), rw0]
      have q : (16 : Int32) * (nI (4 + e / 16) - 4) + nI k = nI e := by
        show nI 16 * (nI (4 + e / 16) - nI 4) + nI k = nI e
        rw [pk_sub (by omega), pk_mul, nI_add]
        exact congrArg nI (by omega)
      rw [q]
      exact h
    refine br_c (fun _ => fin) (fun _ => And.intro (vp_in_nI (by omega) (by omega)) ?_)
    rw [nI_clamp (by omega), rw0]
    exact br_t (nI_le (a := 4) (by omega) (by omega)) fin
  | succ d ih =>
    intro k hk he
    have h3 := he.2.2
    have l9 := hT.2 (e / 16)
    have h96 := he.1
    obtain ⟨y, hy⟩ : ∃ y, e - k = y + 1 := ⟨e - k - 1, by omega⟩
    have ey : e - (k + 1) = y := by omega
    have e0 : ¬ (y + 1) % 16 = 0 := by omega
    have e1 : (y + 1) / 16 = e / 16 := by omega
    have en : ez_En le (y + 1) := ⟨by omega, by rw [e1]; exact he.2.1, by rw [e1]; omega⟩
    have rl := ez_rklt (ez_BLO tx le) (S := ez_En le) en.1 en
    have x2 := hX.2.1
    have rw0 := hX.2.2.2 _ en.1 en
    have pl := ez_prlt hT e0
    have W := ih (k + 1) (by omega) he
    rw [ey] at W
    rw [hy]
    refine br_f (nI_ge (b := 9) (by omega) (by omega)) (And.intro (vp_in_nI (by omega) (by omega)) ?_)
    rw [nI_clamp (by omega), rw0]
    refine br_f (nI_ge (b := 4) pl (by omega)) (And.intro (vp_in_nI (by omega) (by omega)) ?_)
    exact ez_XstepE hT hX en e0 (nm_r (nI_1 k) (nm_r (nI_1 k) W))
theorem ez_XnumberOf (hT : ez_T tx le) (hX : ez_XS tx le (ez_En le) fs ar al) {e : Nat} (he : ez_En le e) (h : post (nI e)) :
    wpX_numberOf post (fd, fs, fp, fl, fh, ad, ar, al, ap, aq, aw, an) (nI (ez_rk (ez_B tx le) (ez_En le) e)) :=
  Exists.intro (e % 16 + 1) (ez_XnumberOf7 hT hX h (e % 16) 0 (by omega) he)
end
end
section
/-! Y: endings compared -/
def ez_n (f : Nat → Nat) : Nat → Int32 := fun j => nI (f j)
theorem ez_d16 {x : Nat} (h : x < 2 ^ 31) : nI x / 16 = nI (x / 16) := pk_div (d := 16) h (by omega) (by omega)
theorem ez_r16 {x : Nat} (h : x < 2 ^ 31) : nI x - nI x / 16 * 16 = nI (x % 16) := pk_rem (d := 16) h (by omega) (by omega)
theorem ez_ix {x i : Nat} (h : x < 2 ^ 31) : (9 * (nI x / 16)) + (nI x - nI x / 16 * 16) + nI i = nI (ez_at x + i) := by
  rw [ez_r16 h, ez_d16 h]
  show nI 9 * nI (x / 16) + nI (x % 16) + nI i = _
  rw [pk_mul, nI_add, nI_add]
  rfl
section
variable {gs : Int32} {bp : Nat → Int32} {tx le : Nat → Nat} {post : Int32 → Prop}
theorem ez_YisE (hT : ez_T tx le) {x : Nat} (hx : x < 96) (h1 : ez_En le x → post 1) (h0 : ¬ ez_En le x → post 0) : wpY_isEnding post (gs, ez_n tx, ez_n le, bp) (nI x) := by
  have l9 := hT.2 (x / 16)
  refine br_f (nI_pos (by omega)) (br_f (nI_ge (b := 96) hx (by omega)) (And.intro (by decide) ?_))
  rw [ez_r16 (by omega), ez_d16 (by omega), nI_clamp (by omega)]
  refine And.intro (vp_in_nI (by omega) (by omega)) ?_
  refine pk_le (le (x / 16)) 0 (fun z => h0 (fun q => by have := q.2.1; omega)) (fun z => And.intro (by decide) (And.intro (by decide) (And.intro (vp_in_nI (by omega) (by omega)) ?_)))
  exact pk_lt (le (x / 16)) (x % 16) (fun y => h0 (fun q => by have := q.2.2; omega)) (fun y => h1 ⟨hx, z, y⟩)
theorem ez_Ysz {x : Nat} (hx : x < 96) (hm : x % 16 ≤ le (x / 16)) (h : post (nI (ez_sz le x))) : wpY_sizeOf post (gs, ez_n tx, ez_n le, bp) (nI x) := by
  refine And.intro (by decide) ?_
  rw [ez_r16 (by omega), ez_d16 (by omega), nI_clamp (by omega)]
  refine And.intro (vp_in_nI (by omega) (by omega)) (And.intro (by decide) ?_)
  show post (nI (le (x / 16)) - nI (x % 16))
  rw [pk_sub hm]
  exact h
theorem ez_Ylt {x i : Nat} (hx : x < 96) (hi : ez_at x + i < 63) (h : post (nI (tx (ez_at x + i)))) : wpY_letterOf post (gs, ez_n tx, ez_n le, bp) (nI x) (nI i) := by
  refine And.intro (by decide) (And.intro (by decide) ?_)
  rw [ez_ix (by omega), nI_clamp (by omega)]
  exact And.intro (vp_in_nI hi (by omega)) h
theorem ez_atsz (hT : ez_T tx le) {x i : Nat} (hx : x < 96) (hm : x % 16 ≤ le (x / 16)) (hi : i < ez_sz le x) : ez_at x + i < 54 := by
  have l9 := hT.2 (x / 16)
  unfold ez_sz at hi
  unfold ez_at
  omega
theorem ez_Ysh30 (hT : ez_T tx le) {a b m : Nat} (ha : ez_En le a) (hb : ez_En le b) (hma : m ≤ ez_sz le a) (hmb : m ≤ ez_sz le b) (hm : m = ez_sz le a ∨ m = ez_sz le b) (m9 : m ≤ 9) :
    ∀ d i, i + d = m → post (nI (i + ez_lc (ez_w tx (ez_at a + i) (ez_sz le a - i)) (ez_w tx (ez_at b + i) (ez_sz le b - i)))) → wY_shared_30 post (nI a) (nI b) (nI m) gs (ez_n tx) (ez_n le) bp (d + 1) (nI i) := by
  intro d
  induction d with
  | zero =>
    intro i hi h
    obtain rfl : i = m := by omega
    refine br_t (nI_le (Nat.le_refl i) (by omega)) ?_
    have e : ez_lc (ez_w tx (ez_at a + i) (ez_sz le a - i)) (ez_w tx (ez_at b + i) (ez_sz le b - i)) = 0 := by
      have l := ez_lxw tx True (ez_sz le a - i) (ez_sz le b - i) (ez_at a + i) (ez_at b + i)
      have l1 := l.1
      have l2 := l.2.1
      omega
    rw [e] at h
    exact h
  | succ d ih =>
    intro i hi h
    have ia := ez_atsz hT ha.1 ha.2.2 (show i < ez_sz le a by omega)
    have ib := ez_atsz hT hb.1 hb.2.2 (show i < ez_sz le b by omega)
    have ha1 := ha.1
    have hb1 := hb.1
    have W := ih (i + 1) (by omega)
    obtain ⟨p, hp⟩ : ∃ p, ez_sz le a - i = p + 1 := ⟨ez_sz le a - i - 1, by omega⟩
    obtain ⟨q, hq⟩ : ∃ q, ez_sz le b - i = q + 1 := ⟨ez_sz le b - i - 1, by omega⟩
    have hp' : ez_sz le a - (i + 1) = p := by omega
    have hq' : ez_sz le b - (i + 1) = q := by omega
    rw [hp', hq'] at W
    rw [hp, hq] at h
    refine br_f (nI_ge (by omega) (by omega)) (ez_Ylt ha.1 (by omega) (ez_Ylt hb.1 (by omega) ?_))
    have t1 := hT.1 (ez_at a + i)
    have t2 := hT.1 (ez_at b + i)
    refine pk_eq (tx (ez_at a + i)) (tx (ez_at b + i)) (fun z => nm_r (nI_1 i) (W ?_)) (fun z => ?_)
    · have e : ez_lc (ez_w tx (ez_at a + i) (p + 1)) (ez_w tx (ez_at b + i) (q + 1)) = ez_lc (ez_w tx (ez_at a + i + 1) p) (ez_w tx (ez_at b + i + 1) q) + 1 := ez_lcs z _ _
      rw [e] at h
      rw [show i + 1 + ez_lc (ez_w tx (ez_at a + (i + 1)) p) (ez_w tx (ez_at b + (i + 1)) q) = i + (ez_lc (ez_w tx (ez_at a + i + 1) p) (ez_w tx (ez_at b + i + 1) q) + 1) from by rw [← Nat.add_assoc, ← Nat.add_assoc]; omega]
      exact h
    · have e : ez_lc (ez_w tx (ez_at a + i) (p + 1)) (ez_w tx (ez_at b + i) (q + 1)) = 0 := ez_lcn z _ _
      rw [e] at h
      exact h
theorem ez_szB (hT : ez_T tx le) (x : Nat) : ez_sz le x ≤ 9 := by have := hT.2 (x / 16); unfold ez_sz; omega
theorem ez_Yshared (hT : ez_T tx le) {a b : Nat} (ha : ez_En le a) (hb : ez_En le b) (h : post (nI (ez_f tx le a b))) : wpY_shared post (gs, ez_n tx, ez_n le, bp) (nI a) (nI b) := by
  have sa := ez_szB hT a
  have sb := ez_szB hT b
  unfold wpY_shared
  dsimp only
  refine ez_Ysz ha.1 ha.2.2 (ez_Ysz hb.1 hb.2.2 (pk_le (ez_sz le b) (ez_sz le a) (fun z => ez_Ysz hb.1 hb.2.2 (Exists.intro (ez_sz le b + 1) ?_)) (fun z => ez_Ysz ha.1 ha.2.2 (Exists.intro (ez_sz le a + 1) ?_))))
  · exact ez_Ysh30 hT ha hb z (Nat.le_refl _) (Or.inr rfl) sb (ez_sz le b) 0 (by omega) (by rw [Nat.zero_add]; exact h)
  · exact ez_Ysh30 hT ha hb (Nat.le_refl _) (by omega) (Or.inl rfl) sa (ez_sz le a) 0 (by omega) (by rw [Nat.zero_add]; exact h)
theorem ez_YcB (hT : ez_T tx le) {a b : Nat} (ha : ez_En le a) (hb : ez_En le b) (h1 : ez_B tx le a b → post 1) (h0 : ¬ ez_B tx le a b → post 0) :
    wpY_comesBefore post (gs, ez_n tx, ez_n le, bp) (nI a) (nI b) := by
  have sa := ez_szB hT a
  have sb := ez_szB hT b
  have ha1 := ha.1
  have hb1 := hb.1
  have L := ez_lxw tx (a < b) (ez_sz le a) (ez_sz le b) (ez_at a) (ez_at b)
  have L' : ez_f tx le a b ≤ ez_sz le a ∧ ez_f tx le a b ≤ ez_sz le b ∧ (ez_f tx le a b = ez_sz le a → ez_f tx le a b = ez_sz le b → (ez_B tx le a b ↔ a < b)) ∧
    (ez_f tx le a b = ez_sz le a → ez_f tx le a b ≠ ez_sz le b → ez_B tx le a b) ∧ (ez_f tx le a b ≠ ez_sz le a → ez_f tx le a b = ez_sz le b → ¬ ez_B tx le a b) ∧
    (ez_f tx le a b ≠ ez_sz le a → ez_f tx le a b ≠ ez_sz le b → (ez_B tx le a b ↔ tx (ez_at a + ez_f tx le a b) < tx (ez_at b + ez_f tx le a b))) := L
  clear L
  refine ez_Yshared hT ha hb ?_
  generalize ez_f tx le a b = t at L'
  obtain ⟨l1, l2, l3, l4, l5, l6⟩ := L'
  have c54 : (t = ez_sz le a ∧ t ≠ ez_sz le b) ∨ (t ≠ ez_sz le a ∧ t = ez_sz le b) → wY_comesBefore_54 post (nI a) (nI t) gs (ez_n tx) (ez_n le) bp := by
    intro c
    refine ez_Ysz ha.1 ha.2.2 (pk_eq t (ez_sz le a) (fun z => ?_) (fun z => ?_))
    · rcases c with c | c
      · exact h1 (l4 c.1 c.2)
      · exact absurd z c.1
    · rcases c with c | c
      · exact absurd c.1 z
      · exact h0 (l5 c.1 c.2)
  have c36 : (t ≠ ez_sz le a ∨ t ≠ ez_sz le b) → wY_comesBefore_36 post (nI a) (nI b) (nI t) gs (ez_n tx) (ez_n le) bp := by
    intro c
    refine ez_Ysz ha.1 ha.2.2 (pk_eq t (ez_sz le a) (fun z => c54 (Or.inl ⟨z, ?_⟩)) (fun z => ez_Ysz hb.1 hb.2.2 (pk_eq t (ez_sz le b) (fun y => c54 (Or.inr ⟨z, y⟩)) (fun y => ?_))))
    · rcases c with c | c
      · exact absurd z c
      · exact c
    · have ia := ez_atsz hT ha.1 ha.2.2 (show t < ez_sz le a by omega)
      have ib := ez_atsz hT hb.1 hb.2.2 (show t < ez_sz le b by omega)
      have t1 := hT.1 (ez_at a + t)
      have t2 := hT.1 (ez_at b + t)
      refine ez_Ylt ha.1 (by omega) (ez_Ylt hb.1 (by omega) (pk_le (tx (ez_at b + t)) (tx (ez_at a + t)) (fun w => h0 (fun q => ?_)) (fun w => h1 ((l6 z y).mpr w))))
      have := (l6 z y).mp q
      omega
  refine ez_Ysz ha.1 ha.2.2 (pk_eq t (ez_sz le a) (fun z => ez_Ysz hb.1 hb.2.2 (pk_eq t (ez_sz le b) (fun y => ?_) (fun y => c36 (Or.inr y)))) (fun z => c36 (Or.inl z)))
  exact pk_le b a (fun w => h0 (fun q => by have := (l3 z y).mp q; omega)) (fun w => h1 ((l3 z y).mpr w))
theorem ez_Yrank4 (hT : ez_T tx le) {e : Nat} (he : ez_En le e) (h : post (nI (ez_rk (ez_B tx le) (ez_En le) e))) :
    ∀ d i, i + d = 96 → wY_rankOf_4 post (nI e) gs (ez_n tx) (ez_n le) bp (d + 1) (nI (ez_c (fun x => ez_En le x ∧ ez_B tx le x e) i)) (nI i) := by
  intro d
  induction d with
  | zero =>
    intro i hi
    obtain rfl : i = 96 := by omega
    exact br_t (nI_le (a := 96) (b := 96) (by omega) (by omega)) h
  | succ d ih =>
    intro i hi
    have W := ih (i + 1) (by omega)
    refine br_f (nI_ge (a := i) (b := 96) (by omega) (by omega)) (ez_YisE hT (by omega) (fun q => br_f (by decide) (ez_YcB hT q he (fun b => br_f (by decide) (nm_r (nI_1 _) (nm_r (nI_1 i) ?_))) (fun b => br_t rfl (nm_r (nI_1 i) ?_)))) (fun q => br_t rfl (nm_r (nI_1 i) ?_)))
    · rw [ez_cst (P := fun x => ez_En le x ∧ ez_B tx le x e) ⟨q, b⟩] at W; exact W
    · rw [ez_csn (P := fun x => ez_En le x ∧ ez_B tx le x e) (fun z => b z.2)] at W; exact W
    · rw [ez_csn (P := fun x => ez_En le x ∧ ez_B tx le x e) (fun z => q z.1)] at W; exact W
theorem ez_Yrank (hT : ez_T tx le) {e : Nat} (he : ez_En le e) (h : post (nI (ez_rk (ez_B tx le) (ez_En le) e))) : wpY_rankOf post (gs, ez_n tx, ez_n le, bp) (nI e) :=
  Exists.intro 97 (ez_Yrank4 hT he h 96 0 rfl)
theorem ez_Yending2 (hT : ez_T tx le) {r : Int32} (h1 : ∀ e, ez_En le e → nI (ez_rk (ez_B tx le) (ez_En le) e) = r → post (nI e)) (h0 : (∀ e, ez_En le e → nI (ez_rk (ez_B tx le) (ez_En le) e) ≠ r) → post (-4)) :
    ∀ d i, i + d = 96 → (∀ e, e < i → ez_En le e → nI (ez_rk (ez_B tx le) (ez_En le) e) ≠ r) → wY_ending_2 post r gs (ez_n tx) (ez_n le) bp (d + 1) (nI i) := by
  intro d
  induction d with
  | zero =>
    intro i hi g
    obtain rfl : i = 96 := by omega
    exact br_t (nI_le (a := 96) (b := 96) (by omega) (by omega)) (h0 (fun e he => g e he.1 he))
  | succ d ih =>
    intro i hi g
    refine br_f (nI_ge (a := i) (b := 96) (by omega) (by omega)) (ez_YisE hT (by omega) (fun q => br_f (by decide) (ez_Yrank hT q (br_c (fun z => h1 i q z) (fun z => nm_r (nI_1 i) (ih (i + 1) (by omega) ?_))))) (fun q => br_t rfl (nm_r (nI_1 i) (ih (i + 1) (by omega) ?_))))
    · intro e hei hE
      by_cases w : e = i
      · rw [w]; exact z
      · exact g e (by omega) hE
    · intro e hei hE
      by_cases w : e = i
      · rw [w] at hE; exact absurd hE q
      · exact g e (by omega) hE
theorem ez_Yending (hT : ez_T tx le) {r : Int32} (h1 : ∀ e, ez_En le e → nI (ez_rk (ez_B tx le) (ez_En le) e) = r → post (nI e)) (h0 : (∀ e, ez_En le e → nI (ez_rk (ez_B tx le) (ez_En le) e) ≠ r) → post (-4)) :
    wpY_ending post (gs, ez_n tx, ez_n le, bp) r :=
  Exists.intro 97 (ez_Yending2 hT h1 h0 96 0 rfl (fun e h => absurd h (Nat.not_lt_zero e)))
theorem ez_Yendings4 (hT : ez_T tx le) (h : post (nI (ez_c (ez_En le) 96))) :
    ∀ d i, i + d = 6 → wY_endings_4 post gs (ez_n tx) (ez_n le) bp (d + 1) (nI (ez_c (ez_En le) (16 * i))) (nI i) := by
  intro d
  induction d with
  | zero =>
    intro i hi
    obtain rfl : i = 6 := by omega
    exact br_t (nI_le (a := 6) (b := 6) (by omega) (by omega)) h
  | succ d ih =>
    intro i hi
    have W := ih (i + 1) (by omega)
    have l9 := hT.2 i
    refine br_f (nI_ge (a := i) (b := 6) (by omega) (by omega)) (And.intro (vp_in_nI (by omega) (by omega)) ?_)
    rw [nI_clamp (by omega)]
    refine pk_le (le i) 0 (fun z => nm_r (nI_1 i) ?_) (fun z => And.intro (vp_in_nI (by omega) (by omega)) (nm_r (e' := nI (ez_c (ez_En le) (16 * (i + 1)))) ?_ (nm_r (nI_1 i) W)))
    · rw [ez_cE hT (by omega), if_neg (by omega), Nat.add_zero] at W
      exact W
    · show nI (ez_c (ez_En le) (16 * i)) + nI (le i) + 1 = _
      rw [nI_add, nI_1, ez_cE hT (by omega), if_pos z, Nat.add_assoc]
theorem ez_Yendings (hT : ez_T tx le) (h : post (nI (ez_c (ez_En le) 96))) : wpY_endings post (gs, ez_n tx, ez_n le, bp) :=
  Exists.intro 7 (ez_Yendings4 hT h 6 0 rfl)
end
end
section
/-! Y: patterns -/
theorem ez_d4 {x : Nat} (h : x < 2 ^ 31) : nI x / 4 = nI (x / 4) := pk_div (d := 4) h (by omega) (by omega)
theorem ez_r4 {x : Nat} (h : x < 2 ^ 31) : nI x - nI x / 4 * 4 = nI (x % 4) := pk_rem (d := 4) h (by omega) (by omega)
theorem ez_dv (p i : Nat) : p / 4 ^ (i + 1) = p / 4 ^ i / 4 := by rw [Nat.pow_succ, Nat.div_div_eq_div_mul]
theorem ez_dvl (p i : Nat) : p / 4 ^ i ≤ p := Nat.div_le_self _ _
theorem ez_dv7 {p k : Nat} (hp : p < 8192) (hk : 7 ≤ k) : p / 4 ^ k = 0 := by
  refine Nat.div_eq_of_lt (Nat.lt_of_lt_of_le hp (Nat.le_trans (by decide : 8192 ≤ 4 ^ 7) (Nat.pow_le_pow_right (by decide) hk)))
theorem ez_ku {p k k' : Nat} (h1 : p / 4 ^ k ≤ 1) (h2 : ∀ j, j < k → 1 < p / 4 ^ j) (g1 : p / 4 ^ k' ≤ 1) (g2 : ∀ j, j < k' → 1 < p / 4 ^ j) : k = k' := by
  rcases Nat.lt_trichotomy k k' with z | z | z
  · have := g2 k z; omega
  · exact z
  · have := h2 k' z; omega
theorem ez_pxl : ∀ P x, ez_px P x → P.length ≤ x.length
  | [], _, _ => Nat.zero_le _
  | _ :: _, [], h => False.elim h
  | _ :: P, _ :: x, h => Nat.succ_le_succ (ez_pxl P x h.2)
theorem ez_pll (q : Nat → Nat) : ∀ k, (ez_pl q k).length = k
  | 0 => rfl
  | k + 1 => congrArg (· + 1) (ez_pll q k)
section
variable {gs : Int32} {bl bn bp : Nat → Int32} {postR : Int32 → SY → Prop}
theorem ez_Ytk52 {p k : Nat} (hp : p < 8192) (hk : k ≤ 7)
    (h : ∀ bp', (∀ j, j < k → bp' j = nI (p / 4 ^ (k - 1 - j) % 4)) → (p / 4 ^ k = 1 → postR 1 (nI k, bl, bn, bp')) ∧ (¬ p / 4 ^ k = 1 → postR 0 (nI k, bl, bn, bp'))) :
    ∀ d i bp, i + d = k → (∀ j, d ≤ j → j < k → bp j = nI (p / 4 ^ (k - 1 - j) % 4)) → wY_take_52 postR (nI k) (d + 1) (nI (p / 4 ^ i)) (nI d + (-1)) bl bn bp := by
  intro d
  induction d with
  | zero =>
    intro i bp hi g
    obtain rfl : i = k := by omega
    have pl := ez_dvl p i
    have H := h bp (fun j hj => g j (Nat.zero_le j) hj)
    exact br_t (by decide) (pk_eq (p / 4 ^ i) 1 H.1 H.2)
  | succ d ih =>
    intro i bp hi g
    have pl := ez_dvl p i
    rw [pk_m1]
    refine br_f (nI_pos (by omega)) (And.intro (by decide) (And.intro (vp_in_nI (by omega) (by omega)) ?_))
    rw [ez_r4 (by omega), ez_d4 (by omega), nI_clamp (by omega), ← ez_dv]
    refine nm_e (And.intro (by decide) (nm_e (nm_e (ih (i + 1) _ (by omega) ?_))))
    intro j hj hjk
    by_cases z : j = d
    · rw [z, pk_us, show k - 1 - d = i by omega]
    · rw [pk_un z]
      exact g j (by omega) hjk
theorem ez_Ytk7 {p : Nat} (hp1 : 1 ≤ p) (hp : p < 8192)
    (h : ∀ k bp', k ≤ 7 → p / 4 ^ k ≤ 1 → (∀ j, j < k → 1 < p / 4 ^ j) → (∀ j, j < k → bp' j = nI (p / 4 ^ (k - 1 - j) % 4)) → (p / 4 ^ k = 1 → postR 1 (nI k, bl, bn, bp')) ∧ (¬ p / 4 ^ k = 1 → postR 0 (nI k, bl, bn, bp'))) :
    ∀ d i, i + d = 7 → (∀ j, j < i → 1 < p / 4 ^ j) → wY_take_7 postR (nI p) bl bn bp (d + 1) (nI (p / 4 ^ i)) (nI i) := by
  have fin : ∀ i n, i ≤ 7 → p / 4 ^ i ≤ 1 → (∀ j, j < i → 1 < p / 4 ^ j) → wY_take_7 postR (nI p) bl bn bp (n + 1) (nI (p / 4 ^ i)) (nI i) := by
    intro i n hi h1 h2
    refine br_t (nI_le (b := 1) h1 (by omega)) (br_f (nI_nlt (b := 1) hp1 (by omega)) (br_t (nI_le (b := 8191) (by omega) (by omega)) (nm_r (Int32.sub_eq_add_neg _ _) (Exists.intro (i + 1) ?_))))
    have W := ez_Ytk52 (bl := bl) (bn := bn) hp hi (fun bp' q => h i bp' hi h1 h2 q) i 0 bp (by omega) (fun j a b => by omega)
    rw [Nat.pow_zero, Nat.div_one] at W
    exact W
  intro d
  induction d with
  | zero =>
    intro i hi g
    obtain rfl : i = 7 := by omega
    exact fin 7 0 (by omega) (by rw [ez_dv7 hp (Nat.le_refl 7)]; omega) g
  | succ d ih =>
    intro i hi g
    by_cases z : p / 4 ^ i ≤ 1
    · exact fin i (d + 1) (by omega) z g
    · have pl := ez_dvl p i
      refine br_f (nI_ge (a := 1) (b := p / 4 ^ i) (by omega) (by omega)) (nm_r (nI_1 i) (And.intro (by decide) (nm_r (e' := nI (p / 4 ^ (i + 1))) (by rw [ez_dv, ez_d4 (by omega)]) (ih (i + 1) (by omega) ?_))))
      intro j hj
      by_cases y : j = i
      · rw [y]; omega
      · exact g j (by omega)
theorem ez_Ytake {p : Nat} (hp1 : 1 ≤ p) (hp : p < 8192)
    (h : ∀ k bp', k ≤ 7 → p / 4 ^ k ≤ 1 → (∀ j, j < k → 1 < p / 4 ^ j) → (∀ j, j < k → bp' j = nI (p / 4 ^ (k - 1 - j) % 4)) → (p / 4 ^ k = 1 → postR 1 (nI k, bl, bn, bp')) ∧ (¬ p / 4 ^ k = 1 → postR 0 (nI k, bl, bn, bp'))) :
    wpY_take postR (gs, bl, bn, bp) (nI p) := by
  have W := ez_Ytk7 (bl := bl) (bn := bn) (bp := bp) hp1 hp h 7 0 rfl (fun j hj => absurd hj (Nat.not_lt_zero j))
  rw [Nat.pow_zero, Nat.div_one] at W
  exact Exists.intro 8 W
theorem ez_Ytake0b {p : Nat} (hp : 8192 ≤ p) (h31 : p < 2 ^ 31) (h : ∀ gs', postR 0 (gs', bl, bn, bp)) :
    ∀ d x g, x < d → x < 2 ^ 31 → wY_take_7 postR (nI p) bl bn bp d (nI x) g := by
  intro d
  induction d with
  | zero => intro x g hx; omega
  | succ d ih =>
    intro x g hx h31x
    refine pk_le x 1 (fun z => br_f (nI_nlt (b := 1) (by omega) (by omega)) (br_f (nI_ge (a := 8191) (by omega) h31) (h g))) (fun z => nm_e (And.intro (by decide) (nm_r (ez_d4 h31x) (ih _ _ (by omega) (by omega)))))
theorem ez_Ytake0 {v1 : Int32} (hv : v1 < 1 ∨ nI 8192 ≤ v1) (h : ∀ gs', postR 0 (gs', bl, bn, bp)) : wpY_take postR (gs, bl, bn, bp) v1 := by
  rcases hv with hv | hv
  · exact Exists.intro 1 (br_t (Int32.le_of_lt hv) (br_t hv (h 0)))
  · have h0 : ¬ v1 < 0 := fun z => by
      have a := Int32.lt_of_le_of_lt hv z
      exact absurd a (by decide)
    obtain ⟨p, hp, rfl⟩ := nI_of h0
    rw [nI_leI (by omega) hp] at hv
    exact Exists.intro (p + 1) (ez_Ytake0b hv hp h (p + 1) p 0 (by omega) hp)
end
section
variable {gs : Int32} {bp : Nat → Int32} {tx le : Nat → Nat} {post : Int32 → Prop} {q : Nat → Nat} {k : Nat}
theorem ez_Yst24 (hT : ez_T tx le) (hk : k ≤ 8) (hq : ∀ i, i < k → bp i = nI (q (k - 1 - i))) (hq4 : ∀ i, q i < 4) {x : Nat} (hx : ez_En le x) (hs : k ≤ ez_sz le x) :
    ∀ d i, i + d = k → (ez_px (ez_pl q d) (ez_w tx (ez_at x + i) (ez_sz le x - i)) → post 1) → (¬ ez_px (ez_pl q d) (ez_w tx (ez_at x + i) (ez_sz le x - i)) → post 0) → wY_stands_24 post (nI x) (nI k) (ez_n tx) (ez_n le) bp (d + 1) (nI i) := by
  intro d
  induction d with
  | zero =>
    intro i hi h1 h0
    obtain rfl : i = k := by omega
    exact br_t (nI_le (Nat.le_refl i) (by omega)) (h1 trivial)
  | succ d ih =>
    intro i hi h1 h0
    have ia := ez_atsz hT hx.1 hx.2.2 (show i < ez_sz le x by omega)
    have W := ih (i + 1) (by omega)
    obtain ⟨m, hm⟩ : ∃ m, ez_sz le x - i = m + 1 := ⟨ez_sz le x - i - 1, by omega⟩
    rw [hm] at h1 h0
    rw [show ez_sz le x - (i + 1) = m by omega] at W
    refine br_f (nI_ge (by omega) (by omega)) (ez_Ylt hx.1 (by omega) (And.intro (vp_in_nI (by omega) (by omega)) ?_))
    rw [nI_clamp (by omega), hq i (by omega), show k - 1 - i = d by omega]
    have t1 := hT.1 (ez_at x + i)
    have t2 := hq4 d
    refine pk_eq (tx (ez_at x + i)) (q d) (fun z => nm_r (nI_1 i) (W (fun g => h1 ⟨z, g⟩) (fun g => h0 (fun y => g y.2)))) (fun z => h0 (fun y => z y.1))
theorem ez_Yst (hT : ez_T tx le) (hk : k ≤ 8) (hq : ∀ i, i < k → bp i = nI (q (k - 1 - i))) (hq4 : ∀ i, q i < 4) {x : Nat} (hx : x < 96)
    (h1 : ez_En le x ∧ ez_px (ez_pl q k) (ez_ct tx le x) → post 1) (h0 : ¬ (ez_En le x ∧ ez_px (ez_pl q k) (ez_ct tx le x)) → post 0) : wpY_stands post (nI k, ez_n tx, ez_n le, bp) (nI x) := by
  have sb := ez_szB hT x
  unfold wpY_stands
  dsimp only
  refine ez_YisE hT hx (fun e => br_f (by decide) (ez_Ysz hx e.2.2 (pk_le k (ez_sz le x) (fun z => Exists.intro (k + 1) ?_) (fun z => h0 (fun g => ?_))))) (fun e => br_t rfl (h0 (fun g => e g.1)))
  · exact ez_Yst24 hT hk hq hq4 e z k 0 (by omega) (fun g => h1 ⟨e, g⟩) (fun g => h0 (fun y => g y.2))
  · have l := ez_pxl _ _ g.2
    rw [ez_pll] at l
    unfold ez_ct at l
    rw [ez_wl] at l
    omega
theorem ez_Ycn4 (hT : ez_T tx le) (hk : k ≤ 8) (hq : ∀ i, i < k → bp i = nI (q (k - 1 - i))) (hq4 : ∀ i, q i < 4)
    (h : post (nI (ez_c (fun x => ez_En le x ∧ ez_px (ez_pl q k) (ez_ct tx le x)) 96))) :
    ∀ d i, i + d = 96 → wY_countNow_4 post (nI k) (ez_n tx) (ez_n le) bp (d + 1) (nI (ez_c (fun x => ez_En le x ∧ ez_px (ez_pl q k) (ez_ct tx le x)) i)) (nI i) := by
  intro d
  induction d with
  | zero =>
    intro i hi
    obtain rfl : i = 96 := by omega
    exact br_t (nI_le (a := 96) (b := 96) (by omega) (by omega)) h
  | succ d ih =>
    intro i hi
    have W := ih (i + 1) (by omega)
    refine br_f (nI_ge (a := i) (b := 96) (by omega) (by omega)) (ez_Yst hT hk hq hq4 (by omega) (fun z => br_f (by decide) (nm_r (nI_1 _) (nm_r (nI_1 i) ?_))) (fun z => br_t rfl (nm_r (nI_1 i) ?_)))
    · rw [ez_cst (P := fun x => ez_En le x ∧ ez_px (ez_pl q k) (ez_ct tx le x)) z] at W; exact W
    · rw [ez_csn (P := fun x => ez_En le x ∧ ez_px (ez_pl q k) (ez_ct tx le x)) z] at W; exact W
theorem ez_Ycn (hT : ez_T tx le) (hk : k ≤ 8) (hq : ∀ i, i < k → bp i = nI (q (k - 1 - i))) (hq4 : ∀ i, q i < 4)
    (h : post (nI (ez_c (fun x => ez_En le x ∧ ez_px (ez_pl q k) (ez_ct tx le x)) 96))) : wpY_countNow post (nI k, ez_n tx, ez_n le, bp) :=
  Exists.intro 97 (ez_Ycn4 hT hk hq hq4 h 96 0 rfl)
end
end
section
/-! X: patterns -/
section
variable {fd fs fp fl fh : Int32} {ad ar al ap aq aw an : Nat → Int32} {postR : Int32 → SX → Prop}
theorem ez_Xsp23 {p : Nat} (hp : p < 8192)
    (h : ∀ k ap', k ≤ 7 → p / 4 ^ k ≤ 1 → (∀ j, j < k → 1 < p / 4 ^ j) → (∀ j, j < k → ap' j = nI (p / 4 ^ j % 4)) → (p / 4 ^ k = 1 → postR 1 (fd, fs, nI k, fl, fh, ad, ar, al, ap', aq, aw, an)) ∧ (¬ p / 4 ^ k = 1 → postR 0 (fd, fs, nI k, fl, fh, ad, ar, al, ap', aq, aw, an))) :
    ∀ d i ap, i + d = 7 → (∀ j, j < i → 1 < p / 4 ^ j) → (∀ j, j < i → ap j = nI (p / 4 ^ j % 4)) → wX_spread_23 postR fd fs fl fh (d + 1) (nI (p / 4 ^ i)) (nI i) (nI i) ad ar al ap aq aw an := by
  have fin : ∀ i ap, i ≤ 7 → p / 4 ^ i ≤ 1 → (∀ j, j < i → 1 < p / 4 ^ j) → (∀ j, j < i → ap j = nI (p / 4 ^ j % 4)) → wX_spread_66 postR (nI (p / 4 ^ i)) fd fs (nI i) fl fh ad ar al ap aq aw an := by
    intro i ap hi h1 h2 h3
    have pl := ez_dvl p i
    have H := h i ap hi h1 h2 h3
    exact pk_eq (p / 4 ^ i) 1 H.1 H.2
  intro d
  induction d with
  | zero =>
    intro i ap hi g1 g2
    obtain rfl : i = 7 := by omega
    exact br_t (nI_le (a := 7) (b := 7) (by omega) (by omega)) (fin 7 ap (by omega) (by rw [ez_dv7 hp (Nat.le_refl 7)]; omega) g1 g2)
  | succ d ih =>
    intro i ap hi g1 g2
    have pl := ez_dvl p i
    refine br_f (nI_ge (a := i) (b := 7) (by omega) (by omega)) (pk_le (p / 4 ^ i) 1 (fun z => fin i ap (by omega) z g1 g2) (fun z => And.intro (vp_in_nI (by omega) (by omega)) ?_))
    rw [pk_andN (n := p / 4 ^ i) (by omega) 2 (by decide), pk_shrN (n := p / 4 ^ i) (by omega) _ 2 (by decide), nI_clamp (by omega)]
    refine nm_e (nm_r (nI_1 i) (nm_r (e' := nI (p / 4 ^ (i + 1))) (by rw [ez_dv]) (nm_r (nI_1 i) (ih (i + 1) _ (by omega) ?_ ?_))))
    · intro j hj
      by_cases y : j = i
      · rw [y]; omega
      · exact g1 j (by omega)
    · intro j hj
      by_cases y : j = i
      · rw [y, pk_us]
      · rw [pk_un y]; exact g2 j (by omega)
theorem ez_Xspread {p : Nat} (hp1 : 1 ≤ p) (hp : p < 8192)
    (h : ∀ k ap', k ≤ 7 → p / 4 ^ k ≤ 1 → (∀ j, j < k → 1 < p / 4 ^ j) → (∀ j, j < k → ap' j = nI (p / 4 ^ j % 4)) → (p / 4 ^ k = 1 → postR 1 (fd, fs, nI k, fl, fh, ad, ar, al, ap', aq, aw, an)) ∧ (¬ p / 4 ^ k = 1 → postR 0 (fd, fs, nI k, fl, fh, ad, ar, al, ap', aq, aw, an))) :
    wpX_spread postR (fd, fs, fp, fl, fh, ad, ar, al, ap, aq, aw, an) (nI p) := by
  have W := ez_Xsp23 hp h 7 0 ap rfl (fun j hj => absurd hj (Nat.not_lt_zero j)) (fun j hj => absurd hj (Nat.not_lt_zero j))
  rw [Nat.pow_zero, Nat.div_one] at W
  exact br_f (nI_nlt (b := 1) hp1 (by omega)) (br_t (nI_lt (b := 8192) hp (by omega)) (Exists.intro 8 W))
theorem ez_Xspread0 {v1 : Int32} (hv : v1 < 1 ∨ nI 8192 ≤ v1) (h : postR 0 (fd, fs, fp, fl, fh, ad, ar, al, ap, aq, aw, an)) : wpX_spread postR (fd, fs, fp, fl, fh, ad, ar, al, ap, aq, aw, an) v1 := by
  rcases hv with hv | hv
  · exact br_t hv h
  · exact br_c (fun _ => h) (fun _ => br_f (Int32.not_lt.mpr hv) h)
end
section
variable {fd fs fp fl fh : Int32} {ad ar al ap aq aw an : Nat → Int32} {tx le : Nat → Nat} {postS : SX → Prop}
theorem ez_Xextend (hT : ez_T tx le) (hX : ez_XS tx le (ez_En le) fs ar al) {c : Nat} (hc : c < 4) {P : List Nat}
    (h : postS (fd, fs, fp, nI (ez_lo tx le (c :: P)), nI (ez_hi tx le (c :: P)), ad, ar, al, ap, aq, aw, an)) : wpX_extend postS (fd, fs, fp, nI (ez_lo tx le P), nI (ez_hi tx le P), ad, ar, al, ap, aq, aw, an) (nI c) := by
  have l1 := ez_los hT hc P
  have l2 := ez_his hT hc P
  rw [ez_texts hT, ← ez_Rlt hT hX hc, ← ez_Req hT hX hc (D := fun y => ez_bl P (ez_ct tx le y)) (ez_loD P), ← Nat.add_assoc] at l1
  rw [ez_texts hT, ← ez_Rlt hT hX hc, ← ez_Req hT hX hc (D := fun y => ez_bp P (ez_ct tx le y)) (ez_hiD P), ← Nat.add_assoc] at l2
  have b1 : ez_lo tx le P ≤ 60 := Nat.le_trans (ez_lole hT P) (ez_size hT)
  have b2 : ez_hi tx le P ≤ 60 := Nat.le_trans (ez_hile hT P) (ez_size hT)
  obtain ⟨x1, x2, x3, x4⟩ := hX
  subst x1
  unfold wpX_extend
  dsimp only
  refine ez_Xlesser x3 hT.2 x2 (ez_XupTo b1 (ez_XupTo b2 (nm_r (e' := nI (ez_lo tx le (c :: P))) ?_ (nm_r (e' := nI (ez_hi tx le (c :: P))) ?_ h))))
  · rw [nI_add, l1]; rfl
  · rw [nI_add, l2]; rfl
theorem ez_Xnarrow15 (hT : ez_T tx le) (hX : ez_XS tx le (ez_En le) fs ar al) {q : Nat → Nat} {k : Nat} (hk : k ≤ 8) (hq : ∀ i, i < k → ap i = nI (q i)) (hq4 : ∀ i, q i < 4)
    (h : ∀ lo hi, ez_Rg tx le (ez_pl q k) lo hi → postS (fd, fs, nI k, nI lo, nI hi, ad, ar, al, ap, aq, aw, an)) :
    ∀ d i, i + d = k → wX_narrow_15 postS (d + 1) (nI i) fd fs (nI k) (nI (ez_lo tx le (ez_pl q i))) (nI (ez_hi tx le (ez_pl q i))) ad ar al ap aq aw an := by
  intro d
  induction d with
  | zero =>
    intro i hi
    obtain rfl : i = k := by omega
    exact br_t (nI_le (Nat.le_refl i) (by omega)) (h _ _ (ez_rg hT _))
  | succ d ih =>
    intro i hi
    have b1 : ez_lo tx le (ez_pl q i) ≤ 60 := Nat.le_trans (ez_lole hT _) (ez_size hT)
    have b2 : ez_hi tx le (ez_pl q i) ≤ 60 := Nat.le_trans (ez_hile hT _) (ez_size hT)
    refine br_f (nI_ge (by omega) (by omega)) (pk_le (ez_hi tx le (ez_pl q i)) (ez_lo tx le (ez_pl q i)) (fun z => h _ _ (ez_rgl hT (ez_rg hT (ez_pl q i)) z k (by omega))) (fun z => And.intro (vp_in_nI (by omega) (by omega)) ?_))
    rw [nI_clamp (by omega), hq i (by omega)]
    refine ez_Xextend hT hX (hq4 i) ?_
    exact nm_r (nI_1 i) (ih (i + 1) (by omega))
theorem ez_Xnarrow (hT : ez_T tx le) (hX : ez_XS tx le (ez_En le) fs ar al) {q : Nat → Nat} {k : Nat} (hk : k ≤ 8) (hq : ∀ i, i < k → ap i = nI (q i)) (hq4 : ∀ i, q i < 4)
    (h : ∀ lo hi, ez_Rg tx le (ez_pl q k) lo hi → postS (fd, fs, nI k, nI lo, nI hi, ad, ar, al, ap, aq, aw, an)) : wpX_narrow postS (fd, fs, nI k, fl, fh, ad, ar, al, ap, aq, aw, an) := by
  have W := ez_Xnarrow15 hT hX hk hq hq4 h k 0 (by omega)
  rw [show ez_pl q 0 = [] from rfl, ez_lo0, ez_hi0, ← hX.1] at W
  exact Exists.intro (k + 1) W
end
end
section
/-! the relation; the small methods -/
theorem ez_upn (f : Nat → Nat) (k x : Nat) : upd (ez_n f) k (nI x) = ez_n (fun j => if j = k then x else f j) := by
  funext j
  by_cases z : j = k
  · show (if j = k then nI x else ez_n f j) = nI (if j = k then x else f j)
    rw [if_pos z, if_pos z]
  · show (if j = k then nI x else ez_n f j) = nI (if j = k then x else f j)
    rw [if_neg z, if_neg z]
    rfl
theorem ez_sh4 {x : Nat} (h : x < 2 ^ 31) : nI x >>> ((4 : Int32) &&& 31) = nI (x / 16) := pk_shrN h _ 4 (by decide)
theorem ez_an15 {x : Nat} (h : x < 2 ^ 31) : nI x &&& 15 = nI (x % 16) := pk_andN (by omega) 4 (by decide)
theorem ez_wc {tx tx' : Nat → Nat} : ∀ n j, (∀ i, i < n → tx' (j + i) = tx (j + i)) → ez_w tx' j n = ez_w tx j n
  | 0, _, _ => rfl
  | n + 1, j, h => by
    show tx' j :: ez_w tx' (j + 1) n = tx j :: ez_w tx (j + 1) n
    rw [show tx' j = tx j from h 0 (by omega), ez_wc (tx := tx) (tx' := tx') n (j + 1) (fun i hi => by rw [Nat.add_assoc, Nat.add_comm 1 i]; exact h (i + 1) (by omega))]
section
variable {fd fs fp fl fh : Int32} {ad ar al ap aq aw an : Nat → Int32} {tx le tx' le' : Nat → Nat} {S : Nat → Prop} {al' : Nat → Int32}
/-- what stands outside slot s doesn't see it -/
theorem ez_frameS (hT : ez_T tx le) {s : Nat} (hS : ∀ x, x < 96 → S x → x / 16 ≠ s ∧ x % 16 ≤ le (x / 16)) (ht : ∀ j, j < 54 → j / 9 ≠ s → tx' j = tx j)
    (hl : ∀ t, t < 6 → t ≠ s → le' t = le t) (hal : ∀ t, t < 6 → al' t = nI (le' t)) (hX : ez_XS tx le S fs ar al) : ez_XS tx' le' S fs ar al' := by
  have hct : ∀ x, x < 96 → S x → ez_ct tx' le' x = ez_ct tx le x := by
    intro x hx hs
    have g := hS x hx hs
    have e : ez_sz le' x = ez_sz le x := by unfold ez_sz; rw [hl (x / 16) (by omega) g.1]
    unfold ez_ct
    rw [e]
    refine ez_wc _ _ fun i hi => ?_
    have b := ez_atsz hT hx g.2 hi
    have l9 := hT.2 (x / 16)
    refine ht _ b ?_
    unfold ez_at ez_sz at *
    omega
  have hB : ∀ x y, x < 96 → y < 96 → S x → S y → (ez_B tx le x y ↔ ez_B tx' le' x y) := by
    intro x y hx hy sx sy
    unfold ez_B
    rw [hct x hx sx, hct y hy sy]
  obtain ⟨x1, x2, x3, x4⟩ := hX
  refine ⟨x1, x2, hal, fun e he hs => ?_⟩
  rw [← ez_rkcongr (B := ez_B tx le) (S := S) (e := e) (fun _ _ => Iff.rfl) (fun x hx sx => hB x e hx he sx hs), x4 e he hs]
  have g := hS e he hs
  by_cases z : e % 16 = 0
  · rw [ez_pr0 z, ez_pr0 z]
  · have l9 := hT.2 (e / 16)
    unfold ez_pr
    rw [if_neg z, if_neg z, ht]
    · unfold ez_at; omega
    · unfold ez_at; omega
end
/-- the relation: there are texts -/
def i_Rel (k : Nat) (u : SX) (v : SY) : Prop := match u, v with
  | (fd, fs, fp, fl, fh, ad, ar, al, ap, aq, aw, an), (gs, bl, bn, bp) => ∃ tx le : Nat → Nat, ez_T tx le ∧ fd = nI (le 6) ∧ ez_XS tx le (ez_En le) fs ar al ∧ (∀ i, i < le 6 → ad i = nI (tx (54 + i))) ∧ bl = ez_n tx ∧ bn = ez_n le
theorem ez_mk {k : Nat} {fd fs fp fl fh : Int32} {ad ar al ap aq aw an : Nat → Int32} {gs : Int32} {bp : Nat → Int32} {tx le : Nat → Nat} (hT : ez_T tx le) (hd : fd = nI (le 6)) (hX : ez_XS tx le (ez_En le) fs ar al) (hdr : ∀ i, i < le 6 → ad i = nI (tx (54 + i))) :
    i_Rel k (fd, fs, fp, fl, fh, ad, ar, al, ap, aq, aw, an) (gs, ez_n tx, ez_n le, bp) := ⟨tx, le, hT, hd, hX, hdr, rfl, rfl⟩
theorem ez_el {k : Nat} {u : SX} {v : SY} {P : SX → SY → Prop}
    (h : ∀ fd fs fp fl fh ad ar al ap aq aw an gs bp tx le, ez_T tx le → fd = nI (le 6) → ez_XS tx le (ez_En le) fs ar al → (∀ i, i < le 6 → ad i = nI (tx (54 + i))) → P (fd, fs, fp, fl, fh, ad, ar, al, ap, aq, aw, an) (gs, ez_n tx, ez_n le, bp))
    (I : i_Rel k u v) : P u v := by
  obtain ⟨fd, fs, fp, fl, fh, ad, ar, al, ap, aq, aw, an⟩ := u
  obtain ⟨gs, bl, bn, bp⟩ := v
  obtain ⟨tx, le, hT, hd, hX, hdr, rfl, rfl⟩ := I
  exact h _ _ _ _ _ _ _ _ _ _ _ _ _ _ tx le hT hd hX hdr
theorem i_up {k : Nat} {u : SX} {v : SY} (h : i_Rel k u v) : i_Rel (k + 3) u v := h
theorem i_vc0 : wpX_init (fun u => wpY_init (fun v => i_Rel 0 u v)) := by
  have c0 : ez_c (ez_En (fun _ => 0)) 96 = 0 := ez_c0 fun x _ h => absurd h.2.1 (Nat.lt_irrefl 0)
  show i_Rel 0 (0, 0, 0, 0, 0, (fun _ => 0), (fun _ => 0), (fun _ => 0), (fun _ => 0), (fun _ => 0), (fun _ => 0), (fun _ => 0)) (0, (fun _ => 0), (fun _ => 0), (fun _ => 0))
  refine ⟨fun _ => 0, fun _ => 0, ⟨fun _ => (by decide : 0 < 4), fun _ => (by decide : 0 ≤ 9)⟩, rfl, ⟨?_, ?_, fun _ _ => rfl, fun e _ h => absurd h.2.1 (Nat.lt_irrefl 0)⟩, fun _ _ => rfl, rfl, rfl⟩
  · rw [c0]; rfl
  · rw [c0]; omega
section
variable {fd fs fp fl fh : Int32} {ad ar al ap aq aw an : Nat → Int32} {gs : Int32} {bl bn bp : Nat → Int32} {post : Int32 → Prop}
theorem ez_Xslot1 {p0 : Int32} (hp : p0 < 0 ∨ nI 6 ≤ p0) (h : post 1) : wpX_badSlot post (fd, fs, fp, fl, fh, ad, ar, al, ap, aq, aw, an) p0 := by
  rcases hp with hp | hp
  · exact br_t hp h
  · exact br_c (fun _ => h) (fun _ => br_f (Int32.not_lt.mpr hp) h)
theorem ez_Xslot0 {s : Nat} (hs : s < 6) (h : post 0) : wpX_badSlot post (fd, fs, fp, fl, fh, ad, ar, al, ap, aq, aw, an) (nI s) :=
  br_f (nI_pos (by omega)) (br_t (nI_lt (b := 6) hs (by omega)) h)
theorem ez_Yslot0 {p0 : Int32} (hp : p0 < 0 ∨ nI 6 ≤ p0) (h : post 0) : wpY_isSlot post (gs, bl, bn, bp) p0 := by
  rcases hp with hp | hp
  · exact br_t hp h
  · refine br_c (fun _ => h) (fun _ => br_t ?_ h)
    exact Int32.lt_of_lt_of_le (nI_lt (a := 5) (b := 6) (by omega) (by omega)) hp
theorem ez_Yslot1 {s : Nat} (hs : s < 6) (h : post 1) : wpY_isSlot post (gs, bl, bn, bp) (nI s) :=
  br_f (nI_pos (by omega)) (br_f (nI_nlt (b := s) (a := 5) (by omega) (by omega)) h)
end
theorem i_vc_draft {k : Nat} {u : SX} {v : SY} (I : i_Rel k u v) (hk : k + 3 ≤ 1536) (v1 : Int32) : wpX_draft (fun r u' => wpY_draft (fun r' v' => r' = r ∧ i_Rel (k + 3) u' v') v v1) u v1 := by
  refine ez_el (P := fun u v => wpX_draft (fun r u' => wpY_draft (fun r' v' => r' = r ∧ i_Rel (k + 3) u' v') v v1) u v1) ?_ I
  intro fd fs fp fl fh ad ar al ap aq aw an gs bp tx le hT hd hX hdr
  have I' : i_Rel (k + 3) (fd, fs, fp, fl, fh, ad, ar, al, ap, aq, aw, an) (gs, ez_n tx, ez_n le, bp) := ez_mk hT hd hX hdr
  subst hd
  rcases pk_ix v1 (n := 4) (by omega) with h | h | ⟨c, hc, rfl⟩
  · exact br_t h (br_t h ⟨rfl, I'⟩)
  · have h0 : ¬ v1 < 0 := fun z => absurd (Int32.lt_of_le_of_lt h z) (by decide)
    have h3 : ¬ v1 ≤ 3 := Int32.not_le.mpr (Int32.lt_of_lt_of_le (nI_lt (a := 3) (b := 4) (by omega) (by omega)) h)
    exact br_f h0 (br_f (Int32.not_lt.mpr h) (br_f h0 (br_f h3 ⟨rfl, I'⟩)))
  · have l9 := hT.2 6
    refine br_f (nI_pos (by omega)) (br_t (nI_lt (b := 4) hc (by omega)) (pk_eq (le 6) 9 (fun z => ?_) (fun z => And.intro (vp_in_nI (by omega) (by omega)) ?_)))
    · refine br_f (nI_pos (by omega)) (br_t (nI_le (b := 3) (by omega) (by omega)) (br_t ?_ ⟨rfl, I'⟩))
      show nI (le 6) = 9
      rw [z]; rfl
    · rw [nI_clamp (by omega)]
      refine nm_e (nm_r (nI_1 _) ?_)
      have hne : ¬ ez_n le 6 = 9 := fun q => z ((nI_eq (a := le 6) (b := 9) (by omega) (by omega)).mp q)
      have e54 : (54 : Int32) + ez_n le 6 = nI (54 + le 6) := nI_add 54 (le 6)
      refine br_f (nI_pos (by omega)) (br_t (nI_le (b := 3) (by omega) (by omega)) (br_f hne ?_))
      rw [e54, nI_clamp (by omega), ez_upn, show ez_n le 6 + 1 = nI (le 6 + 1) from nI_1 (le 6), ez_upn]
      refine And.intro (vp_in_nI (by omega) (by omega)) (nm_e (nm_e ⟨?_, ?_⟩))
      · show nI (if 6 = 6 then le 6 + 1 else le 6) = _
        rw [if_pos rfl]
      · have hT' : ez_T (fun j => if j = 54 + le 6 then c else tx j) (fun j => if j = 6 then le 6 + 1 else le j) := by
          refine ⟨fun j => ?_, fun j => ?_⟩
          · show (if j = 54 + le 6 then c else tx j) < 4
            split
            · exact hc
            · exact hT.1 j
          · show (if j = 6 then le 6 + 1 else le j) ≤ 9
            split
            · omega
            · exact hT.2 j
        refine ez_mk hT' ?_ ?_ ?_
        · show _ = nI (if 6 = 6 then le 6 + 1 else le 6)
          rw [if_pos rfl]
        · have hE : ∀ x, x < 96 → (ez_En le x ↔ ez_En (fun j => if j = 6 then le 6 + 1 else le j) x) := by
            intro x hx
            unfold ez_En
            rw [show (fun j => if j = 6 then le 6 + 1 else le j) (x / 16) = le (x / 16) from if_neg (by omega)]
          refine ez_XSc hE (ez_frameS hT (s := 6) (fun x hx q => ⟨by omega, q.2.2⟩) (fun j hj _ => if_neg (by omega)) (fun t ht _ => if_neg (by omega)) (fun t ht => ?_) hX)
          rw [if_neg (show ¬ t = 6 by omega)]
          exact hX.2.2.1 t ht
        · intro i hi
          have hi' : i < (if 6 = 6 then le 6 + 1 else le 6) := hi
          rw [if_pos rfl] at hi'
          show upd ad (le 6) (nI c) i = nI (if 54 + i = 54 + le 6 then c else tx (54 + i))
          by_cases y : i = le 6
          · rw [y, pk_us, if_pos rfl]
          · rw [pk_un y, if_neg (by omega)]
            exact hdr i (by omega)
theorem i_vc_scrap {k : Nat} {u : SX} {v : SY} (I : i_Rel k u v) (hk : k + 3 ≤ 1536) : wpX_scrap (fun u' => wpY_scrap (fun v' => i_Rel (k + 3) u' v') v) u := by
  refine ez_el (P := fun u v => wpX_scrap (fun u' => wpY_scrap (fun v' => i_Rel (k + 3) u' v') v) u) ?_ I
  intro fd fs fp fl fh ad ar al ap aq aw an gs bp tx le hT hd hX hdr
  have e0 : upd (ez_n le) 6 0 = ez_n (fun j => if j = 6 then 0 else le j) := ez_upn le 6 0
  refine nm_r e0 ?_
  refine ez_mk (le := fun j => if j = 6 then 0 else le j) ⟨hT.1, fun j => ?_⟩ rfl ?_ (fun i hi => ?_)
  · show (if j = 6 then 0 else le j) ≤ 9
    split
    · omega
    · exact hT.2 j
  · have hE : ∀ x, x < 96 → (ez_En le x ↔ ez_En (fun j => if j = 6 then 0 else le j) x) := by
      intro x hx
      unfold ez_En
      rw [show (fun j => if j = 6 then 0 else le j) (x / 16) = le (x / 16) from if_neg (by omega)]
    refine ez_XSc hE (ez_frameS hT (s := 6) (fun x hx q => ⟨by omega, q.2.2⟩) (fun j hj _ => rfl) (fun t ht _ => if_neg (by omega)) (fun t ht => ?_) hX)
    rw [if_neg (show ¬ t = 6 by omega)]
    exact hX.2.2.1 t ht
  · exact absurd hi (Nat.not_lt_zero i)
theorem i_vc_endings {k : Nat} {u : SX} {v : SY} (I : i_Rel k u v) (hk : k + 3 ≤ 1536) : wpX_endings (fun r => wpY_endings (fun r' => r' = r ∧ i_Rel (k + 3) u v) v) u := by
  refine ez_el (P := fun u v => wpX_endings (fun r => wpY_endings (fun r' => r' = r ∧ i_Rel (k + 3) u v) v) u) ?_ I
  intro fd fs fp fl fh ad ar al ap aq aw an gs bp tx le hT hd hX hdr
  have I' : i_Rel (k + 3) (fd, fs, fp, fl, fh, ad, ar, al, ap, aq, aw, an) (gs, ez_n tx, ez_n le, bp) := ez_mk hT hd hX hdr
  exact ez_Yendings hT ⟨hX.1.symm, I'⟩
theorem i_vc_length {k : Nat} {u : SX} {v : SY} (I : i_Rel k u v) (hk : k + 3 ≤ 1536) (v1 : Int32) : wpX_length (fun r => wpY_length (fun r' => r' = r ∧ i_Rel (k + 3) u v) v v1) u v1 := by
  refine ez_el (P := fun u v => wpX_length (fun r => wpY_length (fun r' => r' = r ∧ i_Rel (k + 3) u v) v v1) u v1) ?_ I
  intro fd fs fp fl fh ad ar al ap aq aw an gs bp tx le hT hd hX hdr
  have I' : i_Rel (k + 3) (fd, fs, fp, fl, fh, ad, ar, al, ap, aq, aw, an) (gs, ez_n tx, ez_n le, bp) := ez_mk hT hd hX hdr
  unfold wpX_length wpY_length
  dsimp only
  rcases pk_ix v1 (n := 6) (by omega) with h | h | ⟨s, hs, rfl⟩
  · exact ez_Xslot1 (Or.inl h) (br_f (by decide) (ez_Yslot0 (Or.inl h) (br_t rfl ⟨rfl, I'⟩)))
  · exact ez_Xslot1 (Or.inr h) (br_f (by decide) (ez_Yslot0 (Or.inr h) (br_t rfl ⟨rfl, I'⟩)))
  · refine ez_Xslot0 hs (br_t rfl (And.intro (vp_in_nI hs (by omega)) (ez_Yslot1 hs (br_f (by decide) (And.intro (vp_in_nI (by omega) (by omega)) ⟨?_, I'⟩)))))
    rw [nI_clamp (by omega), hX.2.2.1 s hs]
    rfl
theorem i_vc_letter {k : Nat} {u : SX} {v : SY} (I : i_Rel k u v) (hk : k + 3 ≤ 1536) (v1 : Int32) (v2 : Int32) : wpX_letter (fun r => wpY_letter (fun r' => r' = r ∧ i_Rel (k + 3) u v) v v1 v2) u v1 v2 := by
  refine ez_el (P := fun u v => wpX_letter (fun r => wpY_letter (fun r' => r' = r ∧ i_Rel (k + 3) u v) v v1 v2) u v1 v2) ?_ I
  intro fd fs fp fl fh ad ar al ap aq aw an gs bp tx le hT hd hX hdr
  have I' : i_Rel (k + 3) (fd, fs, fp, fl, fh, ad, ar, al, ap, aq, aw, an) (gs, ez_n tx, ez_n le, bp) := ez_mk hT hd hX hdr
  unfold wpX_letter wpY_letter
  dsimp only
  rcases pk_ix v1 (n := 6) (by omega) with h | h | ⟨s, hs, rfl⟩
  · exact ez_Xslot1 (Or.inl h) (br_f (by decide) (ez_Yslot0 (Or.inl h) (br_t rfl ⟨rfl, I'⟩)))
  · exact ez_Xslot1 (Or.inr h) (br_f (by decide) (ez_Yslot0 (Or.inr h) (br_t rfl ⟨rfl, I'⟩)))
  · refine ez_Xslot0 hs (br_t rfl ?_)
    by_cases h0 : v2 < 0
    · exact br_t h0 (ez_Yslot1 hs (br_f (by decide) (br_t h0 ⟨rfl, I'⟩)))
    · obtain ⟨i, hi, rfl⟩ := nI_of h0
      have l9 := hT.2 s
      refine br_f h0 (And.intro (vp_in_nI hs (by omega)) ?_)
      rw [nI_clamp (show s < 2 ^ 31 by omega), hX.2.2.1 s hs]
      refine pk_lt i (le s) (fun z => ?_) (fun z => ez_Yslot1 hs (br_f (by decide) (br_f h0 (And.intro (vp_in_nI (by omega) (by omega)) (br_t (nI_le z hi) ⟨rfl, I'⟩)))))
      rw [nI_1]
      refine ez_XrankOf hT hX hs (by omega) z ?_
      have e1 : (16 * s + i + 1) / 16 = s := by omega
      have e2 : (16 * s + i + 1) % 16 = i + 1 := by omega
      have en : ez_En le (16 * s + i + 1) := ⟨by omega, by rw [e1]; omega, by rw [e1, e2]; omega⟩
      have rl := ez_rklt (ez_BLO tx le) (S := ez_En le) en.1 en
      have x2 := hX.2.1
      rw [← Nat.add_assoc]
      refine And.intro (vp_in_nI (by omega) (by omega)) ?_
      rw [nI_clamp (show ez_rk (ez_B tx le) (ez_En le) (16 * s + i + 1) < 2 ^ 31 by omega), hX.2.2.2 _ en.1 en, ez_prs (by omega)]
      have ea : ez_at (16 * s + i) = 9 * s + i := by unfold ez_at; omega
      rw [ea]
      have e9 : (9 : Int32) * nI s + nI i = nI (9 * s + i) := by
        show nI 9 * nI s + nI i = _
        rw [pk_mul, nI_add]
      refine ez_Yslot1 hs (br_f (by decide) (br_f h0 (And.intro (vp_in_nI (by omega) (by omega)) (br_f ?_ ?_))))
      · exact nI_ge z (by omega)
      · rw [e9, nI_clamp (by omega)]
        exact And.intro (vp_in_nI (by omega) (by omega)) ⟨rfl, I'⟩
theorem i_vc_ending {k : Nat} {u : SX} {v : SY} (I : i_Rel k u v) (hk : k + 3 ≤ 1536) (v1 : Int32) : wpX_ending (fun r => wpY_ending (fun r' => r' = r ∧ i_Rel (k + 3) u v) v v1) u v1 := by
  refine ez_el (P := fun u v => wpX_ending (fun r => wpY_ending (fun r' => r' = r ∧ i_Rel (k + 3) u v) v v1) u v1) ?_ I
  intro fd fs fp fl fh ad ar al ap aq aw an gs bp tx le hT hd hX hdr
  have I' : i_Rel (k + 3) (fd, fs, fp, fl, fh, ad, ar, al, ap, aq, aw, an) (gs, ez_n tx, ez_n le, bp) := ez_mk hT hd hX hdr
  have hB := ez_BLO tx le
  have x2 := hX.2.1
  have none : (∀ e, ez_En le e → nI (ez_rk (ez_B tx le) (ez_En le) e) ≠ v1) → wpY_ending (fun r' => r' = -4 ∧ i_Rel (k + 3) (fd, fs, fp, fl, fh, ad, ar, al, ap, aq, aw, an) (gs, ez_n tx, ez_n le, bp)) (gs, ez_n tx, ez_n le, bp) v1 :=
    fun h => ez_Yending hT (fun e he q => absurd q (h e he)) (fun _ => ⟨rfl, I'⟩)
  by_cases h0 : v1 < 0
  · refine br_t h0 (none fun e he q => ?_)
    have rl := ez_rklt hB (S := ez_En le) he.1 he
    exact nI_pos (by omega) (q ▸ h0)
  · obtain ⟨r, hr, rfl⟩ := nI_of h0
    refine br_f h0 ?_
    refine pk_lt r (ez_c (ez_En le) 96) (fun z => ?_) (fun z => none fun e he q => ?_) rfl hX.1
    · obtain ⟨e, he, hS, rfl⟩ := ez_surj hB (S := ez_En le) z
      refine ez_XnumberOf hT hX hS ?_
      refine ez_Yending hT (fun e' he' q => ⟨?_, I'⟩) (fun q => absurd rfl (q e hS))
      have rl := ez_rklt hB (S := ez_En le) he'.1 he'
      rw [nI_eq (by omega) (by omega)] at q
      rw [ez_rkinj hB he'.1 he' he hS q]
    · have rl := ez_rklt hB (S := ez_En le) he.1 he
      rw [nI_eq (by omega) (by omega)] at q
      omega
theorem i_vc_rank {k : Nat} {u : SX} {v : SY} (I : i_Rel k u v) (hk : k + 3 ≤ 1536) (v1 : Int32) : wpX_rank (fun r => wpY_rank (fun r' => r' = r ∧ i_Rel (k + 3) u v) v v1) u v1 := by
  refine ez_el (P := fun u v => wpX_rank (fun r => wpY_rank (fun r' => r' = r ∧ i_Rel (k + 3) u v) v v1) u v1) ?_ I
  intro fd fs fp fl fh ad ar al ap aq aw an gs bp tx le hT hd hX hdr
  have I' : i_Rel (k + 3) (fd, fs, fp, fl, fh, ad, ar, al, ap, aq, aw, an) (gs, ez_n tx, ez_n le, bp) := ez_mk hT hd hX hdr
  unfold wpX_rank wpY_rank
  dsimp only
  by_cases h0 : v1 < 0
  · exact fun _ _ _ _ => br_t h0 (br_t h0 (br_t rfl ⟨rfl, I'⟩))
  · obtain ⟨x, hx, rfl⟩ := nI_of h0
    rw [ez_an15 hx, ez_sh4 hx]
    refine nm_e (nm_e (br_f h0 ?_))
    refine pk_le 6 (x / 16) (fun z => ?_) (fun z => And.intro (vp_in_nI (by omega) (by omega)) ?_)
    · exact br_f h0 (br_t (nI_le (a := 96) (by omega) hx) (br_t rfl ⟨rfl, I'⟩))
    · have l9 := hT.2 (x / 16)
      have x96 : x < 96 := by omega
      have ne : ¬ ez_En le x → wpY_isEnding (fun r_1 => ((r_1 = 0 → ((-4 : Int32) = -4 ∧ i_Rel (k + 3) (fd, fs, fp, fl, fh, ad, ar, al, ap, aq, aw, an) (gs, ez_n tx, ez_n le, bp))) ∧ (¬ r_1 = 0 → (wpY_rankOf (fun r_7 => (r_7 = -4 ∧ i_Rel (k + 3) (fd, fs, fp, fl, fh, ad, ar, al, ap, aq, aw, an) (gs, ez_n tx, ez_n le, bp))) (gs, ez_n tx, ez_n le, bp) (nI x))))) (gs, ez_n tx, ez_n le, bp) (nI x) :=
        fun h => ez_YisE hT x96 (fun q => absurd q h) (fun _ => br_t rfl ⟨rfl, I'⟩)
      rw [nI_clamp (show x / 16 < 2 ^ 31 by omega), hX.2.2.1 (x / 16) (by omega)]
      refine pk_eq (le (x / 16)) 0 (fun y => ne (fun q => ?_)) (fun y => And.intro (vp_in_nI (by omega) (by omega)) (pk_le (x % 16) (le (x / 16)) (fun w => ?_) (fun w => ne (fun q => ?_))))
      · have := q.2.1
        omega
      · have en : ez_En le x := ⟨x96, Nat.pos_of_ne_zero y, w⟩
        refine ez_XrankOf hT hX (by omega) (Nat.pos_of_ne_zero y) w ?_
        rw [show 16 * (x / 16) + x % 16 = x by omega]
        exact ez_YisE hT x96 (fun q => br_f (by decide) (ez_Yrank hT q ⟨rfl, I'⟩)) (fun q => absurd en q)
      · have := q.2.2
        omega
end
section
/-! add -/
def ez_cp (tx : Nat → Nat) (s i : Nat) : Nat → Nat := fun j => if 9 * s ≤ j ∧ j < 9 * s + i then tx (54 + (j - 9 * s)) else tx j
def ez_la (le : Nat → Nat) (s : Nat) : Nat → Nat := fun j => if j = 6 then 0 else if j = s then le 6 else le j
def ez_Sa (le : Nat → Nat) (s i : Nat) (x : Nat) : Prop := ez_En le x ∧ (x / 16 ≠ s ∨ i < x % 16)
section
variable {fd fs fp fl fh : Int32} {ad ar al ap aq aw an : Nat → Int32} {tx le : Nat → Nat} {postR : Int32 → SX → Prop}
theorem ez_Sas (hT : ez_T tx le) {s i : Nat} (hs : s < 6) (hi : i + 1 ≤ le s) : ∀ y, y < 96 → ((ez_Sa le s (i + 1) y ∨ y = 16 * s + (i + 1)) ↔ ez_Sa le s i y) := by
  have l9 := hT.2 s
  intro y hy
  refine ⟨fun o => ?_, fun o => ?_⟩
  · rcases o with o | o
    · refine ⟨o.1, ?_⟩
      rcases o.2 with q | q
      · exact Or.inl q
      · exact Or.inr (by omega)
    · have e1 : y / 16 = s := by omega
      have e2 : y % 16 = i + 1 := by omega
      exact ⟨⟨hy, by rw [e1]; omega, by rw [e1, e2]; exact hi⟩, Or.inr (by omega)⟩
  · by_cases z : y = 16 * s + (i + 1)
    · exact Or.inr z
    · refine Or.inl ⟨o.1, ?_⟩
      rcases o.2 with q | q
      · exact Or.inl q
      · by_cases w : y / 16 = s
        · exact Or.inr (by omega)
        · exact Or.inl w
theorem ez_Sa0 (hT : ez_T tx le) {s : Nat} (hs : s < 6) (hl : 0 < le s) : ∀ y, y < 96 → ((ez_Sa le s 0 y ∨ y = 16 * s + 0) ↔ ez_En le y) := by
  intro y hy
  refine ⟨fun o => ?_, fun o => ?_⟩
  · rcases o with o | o
    · exact o.1
    · have e1 : y / 16 = s := by omega
      have e2 : y % 16 = 0 := by omega
      exact ⟨hy, by rw [e1]; exact hl, by rw [e2]; exact Nat.zero_le _⟩
  · by_cases z : y = 16 * s + 0
    · exact Or.inr z
    · refine Or.inl ⟨o, ?_⟩
      by_cases w : y / 16 = s
      · exact Or.inr (by omega)
      · exact Or.inl w
theorem ez_Xadd55 (hT : ez_T tx le) {s : Nat} (hs : s < 6) (hl : 0 < le s) (hdr : ∀ i, i < le s → ad i = nI (tx (9 * s + i)))
    (h : ∀ ar', ez_XS tx le (ez_En le) (nI (ez_c (ez_En le) 96)) ar' al → postR (nI (ez_c (ez_En le) 96)) (0, nI (ez_c (ez_En le) 96), fp, fl, fh, ad, ar', al, ap, aq, aw, an)) :
    ∀ i fs ar, i ≤ le s → ez_XS tx le (ez_Sa le s i) fs ar al → wX_add_55 postR (nI s) (i + 1) (nI (ez_rk (ez_B tx le) (ez_Sa le s i) (16 * s + i))) (nI i + (-1)) fd fs fp fl fh ad ar al ap aq aw an := by
  have l9 := hT.2 s
  have hB := ez_BLO tx le
  have lt60 : ∀ i, i ≤ le s → ez_c (ez_Sa le s i) 96 < 60 := by
    intro i hi
    refine Nat.lt_of_lt_of_le (ez_clt (Q := ez_En le) (a := 16 * s + i) (fun k _ q => q.1) (by omega) (fun q => ?_) ?_) (ez_size hT)
    · rcases q.2 with w | w
      · omega
      · omega
    · have e1 : (16 * s + i) / 16 = s := by omega
      have e2 : (16 * s + i) % 16 = i := by omega
      exact ⟨by omega, by rw [e1]; exact hl, by rw [e1, e2]; exact hi⟩
  intro i
  induction i with
  | zero =>
    intro fs ar hi hX
    have nS : ¬ ez_Sa le s 0 (16 * s + 0) := fun q => by
      rcases q.2 with w | w
      · omega
      · omega
    have ep : (4 : Int32) + nI s = nI (ez_pr tx (16 * s + 0)) := by
      rw [ez_pr0 (by omega), show (16 * s + 0) / 16 = s by omega]
      exact nI_add 4 s
    refine br_t (by decide) ?_
    rw [ep]
    refine ez_Xins hT hX (by omega) nS (lt60 0 (by omega)) (fun ar' hX' => ?_)
    have ec : ez_c (ez_Sa le s 0) 96 + 1 = ez_c (ez_En le) 96 := by
      rw [← ez_cadd (P := ez_Sa le s 0) (a := 16 * s + 0) nS (by omega)]
      exact ez_ceq (ez_Sa0 hT hs hl)
    rw [ec] at hX'
    have hX2 := ez_XSc (ez_Sa0 hT hs hl) hX'
    have H := h ar' hX2
    rw [← ec] at H
    exact H
  | succ i ih =>
    intro fs ar hi hX
    have e1 : (16 * s + (i + 1)) / 16 = s := by omega
    have e2 : (16 * s + (i + 1)) % 16 = i + 1 := by omega
    have nS : ¬ ez_Sa le s (i + 1) (16 * s + (i + 1)) := fun q => by
      rcases q.2 with w | w
      · omega
      · omega
    have ea : ez_at (16 * s + i) = 9 * s + i := by unfold ez_at; omega
    have ep : ad i = nI (ez_pr tx (16 * s + (i + 1))) := by
      rw [hdr i (by omega), ← Nat.add_assoc, ez_prs (by omega), ea]
    rw [pk_m1]
    refine br_f (nI_pos (by omega)) (And.intro (vp_in_nI (by omega) (by omega)) ?_)
    rw [nI_clamp (show i < 2 ^ 31 by omega), ep]
    refine ez_Xins hT hX (by omega) nS (lt60 (i + 1) hi) (fun ar' hX' => And.intro (vp_in_nI (by omega) (by omega)) ?_)
    have hX2 := ez_XSc (ez_Sas hT hs hi) hX'
    have er : ez_rk (ez_B tx le) (ez_Sa le s (i + 1)) (16 * s + (i + 1)) = ez_rk (ez_B tx le) (ez_Sa le s i) (16 * s + i + 1) := by
      have a := ez_rkadd (B := ez_B tx le) (S := ez_Sa le s (i + 1)) (e := 16 * s + (i + 1)) (by omega) nS (16 * s + (i + 1))
      rw [ez_bn (hB.1 _)] at a
      refine (a.trans (Nat.add_zero _)).symm.trans ?_
      rw [Nat.add_assoc]
      exact ez_rkcongr (ez_Sas hT hs hi) (fun _ _ _ => Iff.rfl)
    rw [hdr i (by omega), ← ea, er]
    have sz0 : 0 < ez_sz le (16 * s + i) := by
      have e3 : (16 * s + i) / 16 = s := by omega
      have e4 : (16 * s + i) % 16 = i := by omega
      unfold ez_sz
      rw [e3, e4]; omega
    refine ez_Xstep hT hX2 sz0 ?_ ?_ (nm_e (ih _ ar' (by omega) hX2))
    · rw [← ez_texts hT]
      refine ez_ceq fun x hx => ⟨fun q => ⟨q.1.1, q.2⟩, fun q => ⟨⟨q.1, ?_⟩, q.2⟩⟩
      by_cases w : x / 16 = s
      · refine Or.inr ?_
        have q2 := q.2
        unfold ez_sz at q2
        rw [w] at q2
        omega
      · exact Or.inl w
    · intro x hx
      have hc := hT.1 (ez_at (16 * s + i))
      refine ⟨fun q => ?_, fun q => ?_⟩
      · have g := (ez_EnS hT hx).mp ⟨q.1.1, q.2.1⟩
        rw [ez_prs g.2]
        refine ⟨⟨g.1, ?_⟩, q.2.2⟩
        rcases q.1.2 with w | w
        · exact Or.inl (by have := g.2; omega)
        · exact Or.inr (by have := g.2; omega)
      · have ne : ¬ (x + 1) % 16 = 0 := fun z => by
          have e5 : ez_pr tx (x + 1) = 4 + (x + 1) / 16 := ez_pr0 z
          rcases q.2 with w | w
          · omega
          · have := w.1; omega
        have g := (ez_EnS hT hx).mpr ⟨q.1.1, ne⟩
        have h2 := q.2
        rw [ez_prs ne] at h2
        refine ⟨⟨g.1, ?_⟩, g.2, h2⟩
        by_cases z : x = 16 * s + i
        · exfalso
          rw [z] at h2
          rcases h2 with w | w
          · omega
          · exact hB.1 _ w.2
        · by_cases w : x / 16 = s
          · refine Or.inr ?_
            rcases q.1.2 with y | y
            · omega
            · omega
          · exact Or.inl w
end
section
variable {gs : Int32} {bp : Nat → Int32} {tx le : Nat → Nat} {postR : Int32 → SY → Prop}
theorem ez_cps {s i : Nat} (hs : s < 6) (hi : i < 9) : upd (ez_n (ez_cp tx s i)) (9 * s + i) (ez_n (ez_cp tx s i) (54 + i)) = ez_n (ez_cp tx s (i + 1)) := by
  have e : ez_n (ez_cp tx s i) (54 + i) = nI (tx (54 + i)) := by
    show nI (if 9 * s ≤ 54 + i ∧ 54 + i < 9 * s + i then tx (54 + (54 + i - 9 * s)) else tx (54 + i)) = _
    rw [if_neg (by omega)]
  rw [e, ez_upn]
  refine congrArg ez_n (funext fun j => ?_)
  show (if j = 9 * s + i then tx (54 + i) else if 9 * s ≤ j ∧ j < 9 * s + i then tx (54 + (j - 9 * s)) else tx j) = if 9 * s ≤ j ∧ j < 9 * s + (i + 1) then tx (54 + (j - 9 * s)) else tx j
  by_cases z : j = 9 * s + i
  · rw [if_pos z, if_pos (by omega), z, show 9 * s + i - 9 * s = i by omega]
  · rw [if_neg z]
    by_cases w : 9 * s ≤ j ∧ j < 9 * s + i
    · rw [if_pos w, if_pos (by omega)]
    · rw [if_neg w, if_neg (by omega)]
theorem ez_cp0 (s : Nat) : ez_cp tx s 0 = tx := by
  funext j
  exact if_neg (by omega)
theorem ez_Yadd37 (hT : ez_T tx le) {s : Nat} (hs : s < 6) (hT' : ez_T (ez_cp tx s (le 6)) (ez_la le s)) (h : postR (nI (ez_c (ez_En (ez_la le s)) 96)) (gs, ez_n (ez_cp tx s (le 6)), ez_n (ez_la le s), bp)) :
    ∀ d i, i + d = le 6 → wY_add_37 postR (nI s) gs (d + 1) (nI i) (ez_n (ez_cp tx s i)) (ez_n le) bp := by
  have l9 := hT.2 6
  intro d
  induction d with
  | zero =>
    intro i hi
    obtain rfl : i = le 6 := by omega
    have e1 : upd (ez_n le) s (ez_n le 6) = ez_n (fun j => if j = s then le 6 else le j) := ez_upn le s (le 6)
    have e2 : upd (ez_n (fun j => if j = s then le 6 else le j)) 6 0 = ez_n (ez_la le s) := ez_upn _ 6 0
    refine br_t (nI_le (Nat.le_refl (le 6)) (by omega)) (And.intro (vp_in_nI (by omega) (by omega)) ?_)
    rw [nI_clamp (show s < 2 ^ 31 by omega)]
    exact nm_r e1 (nm_r e2 (ez_Yendings hT' h))
  | succ d ih =>
    intro i hi
    have e54 : (54 : Int32) + nI i = nI (54 + i) := nI_add 54 i
    have e9 : (9 : Int32) * nI s + nI i = nI (9 * s + i) := by
      show nI 9 * nI s + nI i = _
      rw [pk_mul, nI_add]
    refine br_f (nI_ge (b := le 6) (by omega) (by omega)) ?_
    rw [e54, e9, nI_clamp (show 54 + i < 2 ^ 31 by omega), nI_clamp (show 9 * s + i < 2 ^ 31 by omega)]
    exact And.intro (vp_in_nI (by omega) (by omega)) (And.intro (vp_in_nI (by omega) (by omega)) (nm_r (ez_cps hs (by omega)) (nm_r (nI_1 i) (ih (i + 1) (by omega)))))
end
theorem i_vc_add {k : Nat} {u : SX} {v : SY} (I : i_Rel k u v) (hk : k + 3 ≤ 1536) (v1 : Int32) : wpX_add (fun r u' => wpY_add (fun r' v' => r' = r ∧ i_Rel (k + 3) u' v') v v1) u v1 := by
  refine ez_el (P := fun u v => wpX_add (fun r u' => wpY_add (fun r' v' => r' = r ∧ i_Rel (k + 3) u' v') v v1) u v1) ?_ I
  intro fd fs fp fl fh ad ar al ap aq aw an gs bp tx le hT hd hX hdr
  have I' : i_Rel (k + 3) (fd, fs, fp, fl, fh, ad, ar, al, ap, aq, aw, an) (gs, ez_n tx, ez_n le, bp) := ez_mk hT hd hX hdr
  subst hd
  unfold wpX_add wpY_add
  dsimp only
  rcases pk_ix v1 (n := 6) (by omega) with h | h | ⟨s, hs, rfl⟩
  · exact ez_Xslot1 (Or.inl h) (br_f (by decide) (ez_Yslot0 (Or.inl h) (br_t rfl ⟨rfl, I'⟩)))
  · exact ez_Xslot1 (Or.inr h) (br_f (by decide) (ez_Yslot0 (Or.inr h) (br_t rfl ⟨rfl, I'⟩)))
  · have l9 := hT.2 s
    have d9 := hT.2 6
    refine ez_Xslot0 hs (br_t rfl (And.intro (vp_in_nI hs (by omega)) ?_))
    rw [nI_clamp (show s < 2 ^ 31 by omega), hX.2.2.1 s hs]
    refine pk_le (le s) 0 (fun z => ?_) (fun z => ez_Yslot1 hs (br_f (by decide) (And.intro (vp_in_nI (by omega) (by omega)) (br_f (nI_ge (a := 0) (b := le s) z (by omega)) ⟨rfl, I'⟩))))
    have yz : ez_n le s ≤ 0 := nI_le (b := 0) z (by omega)
    refine pk_eq (le 6) 0 (fun w => ez_Yslot1 hs (br_f (by decide) (And.intro (vp_in_nI (by omega) (by omega)) (br_t yz (br_t ?_ ⟨rfl, I'⟩))))) (fun w => And.intro (vp_in_nI hs (by omega)) ?_)
    · show nI (le 6) = 0
      rw [w]; rfl
    · have hT' : ez_T (ez_cp tx s (le 6)) (ez_la le s) := by
        refine ⟨fun j => ?_, fun j => ?_⟩
        · unfold ez_cp
          split
          · exact hT.1 _
          · exact hT.1 _
        · unfold ez_la
          split
          · omega
          · split
            · exact d9
            · exact hT.2 j
      have ls : ez_la le s s = le 6 := by
        show (if s = 6 then 0 else if s = s then le 6 else le s) = le 6
        rw [if_neg (by omega), if_pos rfl]
      have lo : ∀ t, t < 6 → t ≠ s → ez_la le s t = le t := by
        intro t ht ht2
        show (if t = 6 then 0 else if t = s then le 6 else le t) = le t
        rw [if_neg (by omega), if_neg ht2]
      have hal : ∀ t, t < 6 → upd al s (nI (le 6)) t = nI (ez_la le s t) := by
        intro t ht
        by_cases y : t = s
        · rw [y, pk_us, ls]
        · rw [pk_un y, lo t ht y]; exact hX.2.2.1 t ht
      have hS : ∀ x, x < 96 → (ez_En le x ↔ ez_Sa (ez_la le s) s (le 6) x) := by
        intro x hx
        by_cases y : x / 16 = s
        · refine ⟨fun q => ?_, fun q => ?_⟩
          · have := q.2.1
            rw [y] at this
            omega
          · have q1 := q.1.2.2
            rw [y, ls] at q1
            rcases q.2 with p | p
            · exact absurd y p
            · omega
        · unfold ez_Sa ez_En
          rw [lo (x / 16) (by omega) y]
          exact ⟨fun q => ⟨q, Or.inl y⟩, fun q => q.1⟩
      have hX1 : ez_XS (ez_cp tx s (le 6)) (ez_la le s) (ez_Sa (ez_la le s) s (le 6)) fs ar (upd al s (nI (le 6))) := by
        refine ez_frameS hT (s := s) (fun x hx q => ?_) (fun j hj hj2 => ?_) lo hal (ez_XSc hS hX)
        · have g := (hS x hx).mpr q
          refine ⟨fun y => ?_, g.2.2⟩
          have := g.2.1
          rw [y] at this
          omega
        · exact if_neg (by omega)
      refine nm_e (ez_Xbelow hal hT'.2 (by omega) (nm_r (Int32.sub_eq_add_neg _ _) (Exists.intro (le 6 + 1) ?_)))
      have er : ez_c (fun k => 0 < ez_la le s k) s = ez_rk (ez_B (ez_cp tx s (le 6)) (ez_la le s)) (ez_Sa (ez_la le s) s (le 6)) (16 * s + le 6) := by
        have a := ez_rk0 hT' (S := ez_Sa (ez_la le s) s (le 6)) hs (fun x hx => ⟨fun q => ⟨q.1.1, q.2⟩, fun q => ⟨⟨q.1, Or.inl (by omega)⟩, q.2⟩⟩)
        rw [ls] at a
        exact a.symm
      rw [er]
      refine ez_Xadd55 (tx := ez_cp tx s (le 6)) (le := ez_la le s) hT' hs (by rw [ls]; omega) (fun i hi => ?_) (fun ar' hX' => ?_) (le 6) fs ar (by rw [ls]; exact Nat.le_refl _) hX1
      · rw [ls] at hi
        rw [hdr i hi]
        refine congrArg nI ?_
        show tx (54 + i) = if 9 * s ≤ 9 * s + i ∧ 9 * s + i < 9 * s + le 6 then tx (54 + (9 * s + i - 9 * s)) else tx (9 * s + i)
        rw [if_pos (by omega), show 9 * s + i - 9 * s = i by omega]
      · have y6 : ¬ ez_n le 6 = 0 := fun q => w ((nI_eq (a := le 6) (b := 0) (by omega) (by omega)).mp q)
        refine ez_Yslot1 hs (br_f (by decide) (And.intro (vp_in_nI (by omega) (by omega)) (br_t yz (br_f y6 (Exists.intro (le 6 + 1) ?_)))))
        have W := ez_Yadd37 (gs := gs) (bp := bp) hT hs hT' (postR := fun r' v' => r' = nI (ez_c (ez_En (ez_la le s)) 96) ∧ i_Rel (k + 3) (0, nI (ez_c (ez_En (ez_la le s)) 96), fp, fl, fh, ad, ar', upd al s (nI (le 6)), ap, aq, aw, an) v')
          ⟨rfl, ez_mk hT' rfl hX' (fun i hi => absurd hi (Nat.not_lt_zero i))⟩ (le 6) 0 (by omega)
        rw [ez_cp0] at W
        exact W
end
section
/-! remove -/
theorem ez_cdelN {P : Nat → Prop} {l N : Nat} (hl : l < N) (hP : P l) : ez_c P N = ez_c (fun k => P k ∧ k ≠ l) N + 1 := by
  rw [← ez_cadd (P := fun y => P y ∧ y ≠ l) (a := l) (fun q => q.2 rfl) hl]
  refine ez_ceq fun k _ => ⟨fun o => ?_, fun o => ?_⟩
  · by_cases z : k = l
    · exact Or.inr z
    · exact Or.inl ⟨o, z⟩
  · rcases o with a | a
    · exact a.1
    · rw [a]; exact hP
/-- the places noted: those of the endings that still stand, or -1 -/
def ez_PI (tx le : Nat → Nat) (s : Nat) (S : Nat → Prop) (aq : Nat → Int32) : Prop :=
  ∀ k, k ≤ le s → (S (16 * s + (le s - k)) ∧ aq k = nI (ez_rk (ez_B tx le) S (16 * s + (le s - k)))) ∨ (¬ S (16 * s + (le s - k)) ∧ aq k = -1)
section
variable {fd fs fp fl fh : Int32} {ad ar al ap aq aw an : Nat → Int32} {tx le : Nat → Nat} {postR : Int32 → SX → Prop} {s : Nat}
theorem ez_Xrem38 (hT : ez_T tx le) (hX : ez_XS tx le (ez_En le) fs ar al) (hs : s < 6) (hl : 0 < le s)
    (h : ∀ aq', (∀ k, k ≤ le s → aq' k = nI (ez_rk (ez_B tx le) (ez_En le) (16 * s + (le s - k)))) → ∃ n83, wX_remove_83 postR (nI s) (nI (le s)) n83 0 fd fs fp fl fh ad ar al ap aq' aw an) :
    ∀ d i x3 aq, i + d = le s + 1 → (i ≤ le s → x3 = nI (ez_rk (ez_B tx le) (ez_En le) (16 * s + (le s - i)))) → (∀ k, k < i → aq k = nI (ez_rk (ez_B tx le) (ez_En le) (16 * s + (le s - k)))) →
      wX_remove_38 postR (nI s) (nI (le s)) fd fs fp fl fh (d + 1) x3 (nI i) ad ar al ap aq aw an := by
  have l9 := hT.2 s
  intro d
  induction d with
  | zero =>
    intro i x3 aq hi _ g
    exact br_t (nI_lt (by omega) (by omega)) (h aq (fun k hk => g k (by omega)))
  | succ d ih =>
    intro i x3 aq hi hx g
    have e1 : (16 * s + (le s - i)) / 16 = s := by omega
    have e2 : (16 * s + (le s - i)) % 16 = le s - i := by omega
    have en : ez_En le (16 * s + (le s - i)) := ⟨by omega, by rw [e1]; exact hl, by rw [e1, e2]; omega⟩
    have rl := ez_rklt (ez_BLO tx le) (S := ez_En le) en.1 en
    have x2 := hX.2.1
    have hx' := hx (by omega)
    subst hx'
    have g' : ∀ k, k < i + 1 → upd aq i (nI (ez_rk (ez_B tx le) (ez_En le) (16 * s + (le s - i)))) k = nI (ez_rk (ez_B tx le) (ez_En le) (16 * s + (le s - k))) := by
      intro k hk
      by_cases z : k = i
      · rw [z, pk_us]
      · rw [pk_un z]; exact g k (by omega)
    refine br_f (nI_nlt (by omega) (by omega)) (And.intro (vp_in_nI (by omega) (by omega)) ?_)
    rw [nI_clamp (show i < 2 ^ 31 by omega)]
    refine nm_e (And.intro (vp_in_nI (by omega) (by omega)) ?_)
    rw [nI_clamp (show ez_rk (ez_B tx le) (ez_En le) (16 * s + (le s - i)) < 2 ^ 31 by omega), hX.2.2.2 _ en.1 en]
    by_cases z : le s - i = 0
    · have ep : ez_pr tx (16 * s + (le s - i)) = 4 + s := by rw [ez_pr0 (by omega), e1]
      refine br_t ?_ (nm_r (nI_1 i) (ih (i + 1) _ _ (by omega) (fun w => by omega) g'))
      rw [ep]
      exact nI_le (a := 4) (by omega) (by omega)
    · obtain ⟨y, hy⟩ : ∃ y, 16 * s + (le s - i) = y + 1 := ⟨16 * s + (le s - i) - 1, by omega⟩
      have ey : 16 * s + (le s - (i + 1)) = y := by omega
      have e0 : ¬ (y + 1) % 16 = 0 := by omega
      rw [hy] at en g' ⊢
      refine br_f (nI_ge (b := 4) (ez_prlt hT e0) (by omega)) (And.intro (vp_in_nI (by rw [hy] at rl; omega) (by omega)) ?_)
      refine ez_XstepE hT hX en e0 (nm_r (nI_1 i) (ih (i + 1) _ _ (by omega) (fun w => ?_) g'))
      rw [ey]
theorem ez_Xrem95 (hT : ez_T tx le) {S : Nat → Prop} (hX : ez_XS tx le S fs ar al) (hs : s < 6) (hl : 0 < le s) (hP : ez_PI tx le s S aq) (hex : ∃ k, k ≤ le s ∧ S (16 * s + (le s - k))) {x4 : Int32}
    {J : Int32 → Int32 → Int32 → Int32 → Int32 → Int32 → (Nat → Int32) → (Nat → Int32) → (Nat → Int32) → (Nat → Int32) → (Nat → Int32) → (Nat → Int32) → (Nat → Int32) → Prop}
    (hJ : ∀ l ar', l ≤ le s → S (16 * s + (le s - l)) → (∀ j, j ≤ le s → S (16 * s + (le s - j)) → j ≠ l → ez_B tx le (16 * s + (le s - j)) (16 * s + (le s - l))) →
      ez_XS tx le (fun y => S y ∧ y ≠ 16 * s + (le s - l)) (nI (ez_c (fun y => S y ∧ y ≠ 16 * s + (le s - l)) 96)) ar' al →
      J (x4 + 1) fd (nI (ez_c (fun y => S y ∧ y ≠ 16 * s + (le s - l)) 96)) fp fl fh ad ar' al ap (upd aq l (-1)) aw an) :
    ∀ d k last, k + d = le s + 1 → last ≤ le s → (∀ j, j < k → aq j ≤ aq last) → wX_remove_95 postR J (nI s) (nI (le s)) x4 fd fs fp fl fh ad ar al ap aq aw an (d + 1) (nI last) (nI k) := by
  have l9 := hT.2 s
  have hB := ez_BLO tx le
  intro d
  induction d with
  | zero =>
    intro k last hk hlast g
    have x2 := hX.2.1
    have em : ∀ j, j ≤ le s → 16 * s + (le s - j) < 96 := fun j _ => by omega
    obtain ⟨k0, hk0, hS0⟩ := hex
    have a0 : aq k0 = nI (ez_rk (ez_B tx le) S (16 * s + (le s - k0))) := by
      rcases hP k0 hk0 with q | q
      · exact q.2
      · exact absurd hS0 q.1
    have hSl : S (16 * s + (le s - last)) ∧ aq last = nI (ez_rk (ez_B tx le) S (16 * s + (le s - last))) := by
      rcases hP last hlast with q | q
      · exact q
      · exfalso
        have c := g k0 (by omega)
        rw [a0, q.2] at c
        have rl := ez_rklt hB (em k0 hk0) hS0
        exact absurd c (Int32.not_le.mpr (Int32.lt_of_lt_of_le (by decide : (-1 : Int32) < 0) (nI_pos' (by omega))))
    have rll := ez_rklt hB (em last hlast) hSl.1
    refine br_t (nI_lt (by omega) (by omega)) (And.intro (vp_in_nI (by omega) (by omega)) ?_)
    rw [nI_clamp (show last < 2 ^ 31 by omega), hSl.2]
    refine ez_Xdel hT hX (em last hlast) hSl.1 (fun ar' hX' => And.intro (vp_in_nI (by omega) (by omega)) (nm_e (nm_e ?_)))
    refine hJ last ar' hlast hSl.1 (fun j hj hSj hne => ?_) hX'
    have aj : aq j = nI (ez_rk (ez_B tx le) S (16 * s + (le s - j))) := by
      rcases hP j hj with q | q
      · exact q.2
      · exact absurd hSj q.1
    have c := g j (by omega)
    have rlj := ez_rklt hB (em j hj) hSj
    rw [aj, hSl.2, nI_leI (by omega) (by omega)] at c
    have ne : ez_rk (ez_B tx le) S (16 * s + (le s - j)) ≠ ez_rk (ez_B tx le) S (16 * s + (le s - last)) := fun e => by
      have := ez_rkinj hB (em j hj) hSj (em last hlast) hSl.1 e
      omega
    exact (ez_rkiff hB (em j hj) hSj (em last hlast) hSl.1).mp (by omega)
  | succ d ih =>
    intro k last hk hlast g
    refine br_f (nI_nlt (by omega) (by omega)) (And.intro (vp_in_nI (by omega) (by omega)) (And.intro (vp_in_nI (by omega) (by omega)) ?_))
    rw [nI_clamp (show k < 2 ^ 31 by omega), nI_clamp (show last < 2 ^ 31 by omega)]
    refine br_c (fun z => nm_r (nI_1 k) (ih (k + 1) last (by omega) hlast (fun j hj => ?_))) (fun z => nm_r (nI_1 k) (ih (k + 1) k (by omega) (by omega) (fun j hj => ?_)))
    · by_cases w : j = k
      · rw [w]; exact z
      · exact g j (by omega)
    · by_cases w : j = k
      · rw [w]; exact Int32.le_refl _
      · exact Int32.le_trans (g j (by omega)) (Int32.le_of_lt (Int32.not_le.mp z))
theorem ez_Xrem83 (hT : ez_T tx le) (hs : s < 6) (hl : 0 < le s)
    (h : ∀ fs ar aq, ez_XS tx le (fun x => ez_En le x ∧ x / 16 ≠ s) fs ar al → postR fs (fd, fs, fp, fl, fh, ad, ar, upd al s 0, ap, aq, aw, an)) :
    ∀ d i S aq fs ar, i + d = le s + 1 → ez_c (fun k => S (16 * s + (le s - k))) (le s + 1) = d → (∀ x, S x → ez_En le x) → (∀ x, ez_En le x → x / 16 ≠ s → S x) → ez_XS tx le S fs ar al → ez_PI tx le s S aq →
      wX_remove_83 postR (nI s) (nI (le s)) (d + 1) (nI i) fd fs fp fl fh ad ar al ap aq aw an := by
  have l9 := hT.2 s
  have hB := ez_BLO tx le
  intro d
  induction d with
  | zero =>
    intro i S aq fs ar hi hc h1 h2 hX hP
    refine br_t (nI_lt (by omega) (by omega)) (And.intro (vp_in_nI hs (by omega)) ?_)
    rw [nI_clamp (show s < 2 ^ 31 by omega)]
    refine nm_e (h fs ar aq (ez_XSc (fun x hx => ⟨fun q => ⟨h1 x q, fun w => ?_⟩, fun q => h2 x q.1 q.2⟩) hX))
    have q2 := (h1 x q).2.2
    rw [w] at q2
    have e : 16 * s + (le s - (le s - x % 16)) = x := by omega
    have := ez_cpos (P := fun k => S (16 * s + (le s - k))) (a := le s - x % 16) (N := le s + 1) (by show S (16 * s + (le s - (le s - x % 16))); rw [e]; exact q) (by omega)
    omega
  | succ d ih =>
    intro i S aq fs ar hi hc h1 h2 hX hP
    refine br_f (nI_nlt (by omega) (by omega)) (Exists.intro (le s + 2) ?_)
    have hex : ∃ k, k ≤ le s ∧ S (16 * s + (le s - k)) := by
      obtain ⟨a, ha, q⟩ := ez_cex (P := fun k => S (16 * s + (le s - k))) (N := le s + 1) (by omega)
      exact ⟨a, by omega, q⟩
    refine ez_Xrem95 hT hX hs hl hP hex (fun l ar' hl' hSl hBl hX' => ?_) (le s + 1) 0 0 (by omega) (by omega) (fun j hj => absurd hj (Nat.not_lt_zero j))
    rw [nI_1]
    refine ih (i + 1) _ _ _ _ (by omega) ?_ (fun x q => h1 x q.1) (fun x q w => ⟨h2 x q w, fun e => w (by omega)⟩) hX' (fun k hk => ?_)
    · have c2 := ez_cdelN (P := fun k => S (16 * s + (le s - k))) (l := l) (N := le s + 1) (by omega) hSl
      have c3 : ez_c (fun k => S (16 * s + (le s - k)) ∧ 16 * s + (le s - k) ≠ 16 * s + (le s - l)) (le s + 1) = ez_c (fun k => S (16 * s + (le s - k)) ∧ k ≠ l) (le s + 1) :=
        ez_ceq fun k hk => ⟨fun q => ⟨q.1, fun e => q.2 (by rw [e])⟩, fun q => ⟨q.1, fun e => q.2 (by omega)⟩⟩
      rw [c3]
      omega
    · by_cases z : k = l
      · rw [z]
        exact Or.inr ⟨fun q => q.2 rfl, pk_us⟩
      · rcases hP k hk with q | q
        · refine Or.inl ⟨⟨q.1, fun e => z (by omega)⟩, ?_⟩
          rw [pk_un z, q.2]
          have nb : ¬ ez_B tx le (16 * s + (le s - l)) (16 * s + (le s - k)) := fun b => hB.1 _ (hB.2.1 _ _ _ b (hBl k hk q.1 z))
          have rd := ez_rkdel (B := ez_B tx le) (S := S) (e := 16 * s + (le s - l)) (by omega) hSl (16 * s + (le s - k))
          rw [ez_bn nb] at rd
          rw [rd]
          rfl
        · exact Or.inr ⟨fun w => q.1 w.1, by rw [pk_un z]; exact q.2⟩
end
theorem i_vc_remove {k : Nat} {u : SX} {v : SY} (I : i_Rel k u v) (hk : k + 3 ≤ 1536) (v1 : Int32) : wpX_remove (fun r u' => wpY_remove (fun r' v' => r' = r ∧ i_Rel (k + 3) u' v') v v1) u v1 := by
  refine ez_el (P := fun u v => wpX_remove (fun r u' => wpY_remove (fun r' v' => r' = r ∧ i_Rel (k + 3) u' v') v v1) u v1) ?_ I
  intro fd fs fp fl fh ad ar al ap aq aw an gs bp tx le hT hd hX hdr
  have I' : i_Rel (k + 3) (fd, fs, fp, fl, fh, ad, ar, al, ap, aq, aw, an) (gs, ez_n tx, ez_n le, bp) := ez_mk hT hd hX hdr
  unfold wpX_remove wpY_remove
  dsimp only
  rcases pk_ix v1 (n := 6) (by omega) with h | h | ⟨s, hs, rfl⟩
  · exact ez_Xslot1 (Or.inl h) (br_f (by decide) (ez_Yslot0 (Or.inl h) (br_t rfl ⟨rfl, I'⟩)))
  · exact ez_Xslot1 (Or.inr h) (br_f (by decide) (ez_Yslot0 (Or.inr h) (br_t rfl ⟨rfl, I'⟩)))
  · have l9 := hT.2 s
    refine ez_Xslot0 hs (br_t rfl (And.intro (vp_in_nI hs (by omega)) ?_))
    rw [nI_clamp (show s < 2 ^ 31 by omega), hX.2.2.1 s hs]
    refine pk_eq (le s) 0 (fun z => ez_Yslot1 hs (br_f (by decide) (And.intro (vp_in_nI (by omega) (by omega)) (br_t ?_ ⟨rfl, I'⟩)))) (fun z => And.intro (vp_in_nI hs (by omega)) (nm_e ?_))
    · show nI (le s) = 0
      rw [z]; rfl
    · refine ez_Xbelow hX.2.2.1 hT.2 (by omega) (Exists.intro (le s + 1 + 1) ?_)
      rw [← ez_rkB hT hs]
      refine ez_Xrem38 hT hX hs (by omega) (fun aq' hq => Exists.intro (le s + 1 + 1) ?_) (le s + 1) 0 _ aq (by omega) (fun _ => rfl) (fun j hj => absurd hj (Nat.not_lt_zero j))
      have en : ∀ k, k ≤ le s → ez_En le (16 * s + (le s - k)) := by
        intro k hk
        have e1 : (16 * s + (le s - k)) / 16 = s := by omega
        have e2 : (16 * s + (le s - k)) % 16 = le s - k := by omega
        exact ⟨by omega, by rw [e1]; omega, by rw [e1, e2]; omega⟩
      refine ez_Xrem83 hT hs (by omega) (fun fs' ar' aq2 hX' => ?_) (le s + 1) 0 (ez_En le) aq' fs ar (by omega) ?_ (fun _ q => q) (fun _ q _ => q) hX (fun k hk => Or.inl ⟨en k hk, hq k hk⟩)
      · have e0 : upd (ez_n le) s 0 = ez_n (fun j => if j = s then 0 else le j) := ez_upn le s 0
        have hT' : ez_T tx (fun j => if j = s then 0 else le j) := by
          refine ⟨hT.1, fun j => ?_⟩
          show (if j = s then 0 else le j) ≤ 9
          split
          · omega
          · exact hT.2 j
        have hal : ∀ t, t < 6 → upd al s 0 t = nI (if t = s then 0 else le t) := by
          intro t ht
          by_cases y : t = s
          · rw [if_pos y, y, pk_us]; rfl
          · rw [if_neg y, pk_un y]; exact hX.2.2.1 t ht
        have hS : ∀ x, x < 96 → ((ez_En le x ∧ x / 16 ≠ s) ↔ ez_En (fun j => if j = s then 0 else le j) x) := by
          intro x hx
          show _ ↔ (x < 96 ∧ 0 < (if x / 16 = s then 0 else le (x / 16)) ∧ x % 16 ≤ (if x / 16 = s then 0 else le (x / 16)))
          by_cases y : x / 16 = s
          · rw [if_pos y]
            exact ⟨fun q => absurd y q.2, fun q => absurd q.2.1 (Nat.lt_irrefl 0)⟩
          · rw [if_neg y]
            exact ⟨fun q => q.1, fun q => ⟨q, y⟩⟩
        have hX2 : ez_XS tx (fun j => if j = s then 0 else le j) (ez_En (fun j => if j = s then 0 else le j)) fs' ar' (upd al s 0) :=
          ez_XSc hS (ez_frameS hT (s := s) (fun x hx q => ⟨q.2, q.1.2.2⟩) (fun j _ _ => rfl) (fun t _ w => if_neg w) hal hX')
        have ne0 : ¬ ez_n le s = 0 := fun q => z ((nI_eq (a := le s) (b := 0) (by omega) (by omega)).mp q)
        refine ez_Yslot1 hs (br_f (by decide) (And.intro (vp_in_nI (by omega) (by omega)) (br_f ne0 (And.intro (vp_in_nI (by omega) (by omega)) (nm_r e0 (ez_Yendings hT' ⟨hX2.1.symm, ez_mk hT' ?_ hX2 (fun i hi => ?_)⟩))))))
        · show fd = nI (if 6 = s then 0 else le 6)
          rw [if_neg (by omega)]; exact hd
        · have hi' : i < (if 6 = s then 0 else le 6) := hi
          rw [if_neg (by omega)] at hi'
          exact hdr i hi'
      · rw [ez_ceq (Q := fun _ => True) (fun k hk => ⟨fun _ => trivial, fun _ => en k (by omega)⟩), ez_call]
end
section
/-! sets of bits; good and bad patterns -/
def ez_hb (x : Int32) (P : Nat → Prop) : Prop := ∀ j, j < 32 → (bt x j = true ↔ P j)
theorem ez_b1 : ∀ m, m < 32 → bt 1 m = decide (m = 0) := by decide +kernel
theorem ez_hb0 {P : Nat → Prop} (h : ∀ j, ¬ P j) : ez_hb 0 P := fun j _ => by
  rw [b_0]
  exact ⟨fun q => absurd q (by decide), fun q => absurd q (h j)⟩
theorem ez_hbs {x : Int32} {P : Nat → Prop} {t : Nat} (h : ez_hb x P) (ht : t < 32) : ez_hb (x ||| ((1 : Int32) <<< (nI t &&& 31))) (fun j => P j ∨ j = t) := by
  intro j hj
  rw [b_or, b_shl t ht 1 hj, ez_b1 (j - t) (by omega), Bool.or_eq_true, h j hj, Bool.and_eq_true, decide_eq_true_eq, decide_eq_true_eq]
  refine ⟨fun o => ?_, fun o => ?_⟩
  · rcases o with o | o
    · exact Or.inl o
    · exact Or.inr (by omega)
  · rcases o with o | o
    · exact Or.inl o
    · exact Or.inr (by omega)
theorem ez_hbc {x : Int32} {P Q : Nat → Prop} (h : ez_hb x P) (g : ∀ j, j < 32 → (P j ↔ Q j)) : ez_hb x Q := fun j hj => (h j hj).trans (g j hj)
theorem ez_hbe {x y : Int32} {P Q : Nat → Prop} (h : ez_hb x P) (h' : ez_hb y Q) (g : ∀ j, j < 32 → (P j ↔ Q j)) : x = y := by
  refine b_ext fun i hi => ?_
  have e := (h i hi).trans ((g i hi).trans (h' i hi).symm)
  exact Bool.eq_iff_iff.mpr e
def ez_bad (v1 : Int32) : Prop := v1 < 1 ∨ nI 8192 ≤ v1 ∨ ∃ p, 1 ≤ p ∧ p < 8192 ∧ v1 = nI p ∧ ∀ k, p / 4 ^ k ≠ 1
theorem ez_gb (v1 : Int32) : ez_bad v1 ∨ ∃ p k, 1 ≤ p ∧ p < 8192 ∧ v1 = nI p ∧ p / 4 ^ k = 1 := by
  rcases pk_ix v1 (n := 8192) (by omega) with h | h | ⟨p, hp, rfl⟩
  · exact Or.inl (Or.inl (Int32.lt_trans h (by decide)))
  · exact Or.inl (Or.inr (Or.inl h))
  · by_cases z : 1 ≤ p
    · by_cases w : ∃ k, p / 4 ^ k = 1
      · obtain ⟨k, hk⟩ := w
        exact Or.inr ⟨p, k, z, hp, rfl, hk⟩
      · exact Or.inl (Or.inr (Or.inr ⟨p, z, hp, rfl, fun k q => w ⟨k, q⟩⟩))
    · exact Or.inl (Or.inl (nI_lt (b := 1) (by omega) (by omega)))
theorem ez_kj {p : Nat} : ∀ k, p / 4 ^ k = 1 → ∀ j, j < k → 1 < p / 4 ^ j := by
  have key : ∀ d j, 1 ≤ p / 4 ^ (j + d) → 1 ≤ p / 4 ^ j := by
    intro d
    induction d with
    | zero => exact fun j h => h
    | succ d ih =>
      intro j h
      have a := ih (j + 1) (by rw [show j + 1 + d = j + (d + 1) by omega]; exact h)
      rw [ez_dv] at a
      omega
  intro k hk j hj
  have a := key (k - (j + 1)) (j + 1) (by rw [show j + 1 + (k - (j + 1)) = k by omega]; omega)
  rw [ez_dv] at a
  omega
theorem ez_k6 {p k : Nat} (hp : p < 8192) (hk : p / 4 ^ k = 1) : k ≤ 6 := by
  by_cases z : k ≤ 6
  · exact z
  · have := ez_dv7 hp (show 7 ≤ k by omega)
    omega
section
variable {fd fs fp fl fh : Int32} {ad ar al ap aq aw an : Nat → Int32} {gs : Int32} {bl bn bp : Nat → Int32} {postX : Int32 → SX → Prop} {postY : Int32 → SY → Prop} {v1 : Int32}
theorem ez_Xbad (hv : ez_bad v1) (h : ∀ fp ap, postX 0 (fd, fs, fp, fl, fh, ad, ar, al, ap, aq, aw, an)) : wpX_spread postX (fd, fs, fp, fl, fh, ad, ar, al, ap, aq, aw, an) v1 := by
  rcases hv with hv | hv | ⟨p, hp1, hp, rfl, hk⟩
  · exact ez_Xspread0 (Or.inl hv) (h fp ap)
  · exact ez_Xspread0 (Or.inr hv) (h fp ap)
  · exact ez_Xspread hp1 hp (fun k ap' _ _ _ _ => ⟨fun q => absurd q (hk k), fun _ => h (nI k) ap'⟩)
theorem ez_Ybad (hv : ez_bad v1) (h : ∀ gs bp, postY 0 (gs, bl, bn, bp)) : wpY_take postY (gs, bl, bn, bp) v1 := by
  rcases hv with hv | hv | ⟨p, hp1, hp, rfl, hk⟩
  · exact ez_Ytake0 (Or.inl hv) (fun gs' => h gs' bp)
  · exact ez_Ytake0 (Or.inr hv) (fun gs' => h gs' bp)
  · exact ez_Ytake hp1 hp (fun k bp' _ _ _ _ => ⟨fun q => absurd q (hk k), fun _ => h (nI k) bp'⟩)
theorem ez_Xgood {p k : Nat} (hp1 : 1 ≤ p) (hp : p < 8192) (hk : p / 4 ^ k = 1) (h : ∀ ap, (∀ j, j < k → ap j = nI (p / 4 ^ j % 4)) → postX 1 (fd, fs, nI k, fl, fh, ad, ar, al, ap, aq, aw, an)) : wpX_spread postX (fd, fs, fp, fl, fh, ad, ar, al, ap, aq, aw, an) (nI p) := by
  refine ez_Xspread hp1 hp (fun k2 ap' _ h1 h2 h3 => ?_)
  obtain rfl : k2 = k := ez_ku h1 h2 (by omega) (ez_kj k hk)
  exact ⟨fun _ => h ap' h3, fun q => absurd hk q⟩
theorem ez_Ygood {p k : Nat} (hp1 : 1 ≤ p) (hp : p < 8192) (hk : p / 4 ^ k = 1) (h : ∀ bp, (∀ j, j < k → bp j = nI (p / 4 ^ (k - 1 - j) % 4)) → postY 1 (nI k, bl, bn, bp)) : wpY_take postY (gs, bl, bn, bp) (nI p) := by
  refine ez_Ytake hp1 hp (fun k2 bp' _ h1 h2 h3 => ?_)
  obtain rfl : k2 = k := ez_ku h1 h2 (by omega) (ez_kj k hk)
  exact ⟨fun _ => h bp' h3, fun q => absurd hk q⟩
end
theorem ez_q4 (p : Nat) : ∀ i, (fun j => p / 4 ^ j % 4) i < 4 := fun i => Nat.mod_lt _ (by omega)
theorem i_vc_count {k : Nat} {u : SX} {v : SY} (I : i_Rel k u v) (hk : k + 3 ≤ 1536) (v1 : Int32) : wpX_count (fun r u' => wpY_count (fun r' v' => r' = r ∧ i_Rel (k + 3) u' v') v v1) u v1 := by
  refine ez_el (P := fun u v => wpX_count (fun r u' => wpY_count (fun r' v' => r' = r ∧ i_Rel (k + 3) u' v') v v1) u v1) ?_ I
  intro fd fs fp fl fh ad ar al ap aq aw an gs bp tx le hT hd hX hdr
  unfold wpX_count wpY_count
  dsimp only
  rcases ez_gb v1 with hb | ⟨p, m, hp1, hp, rfl, hm⟩
  · exact ez_Xbad hb (fun _ _ => br_t rfl (ez_Ybad hb (fun _ _ => br_t rfl ⟨rfl, ez_mk hT hd hX hdr⟩)))
  · have m6 := ez_k6 hp hm
    have s60 := ez_size hT
    refine ez_Xgood hp1 hp hm (fun ap' hap => br_f (by decide) (ez_Xnarrow hT hX (q := fun j => p / 4 ^ j % 4) (by omega) hap (ez_q4 p) (fun lo hi hR => ?_)))
    have h1 := hR.1
    have h2 := hR.2.1
    refine pk_le hi lo (fun z => ?_) (fun z => ?_)
    · refine ez_Ygood hp1 hp hm (fun bp' hbp => br_f (by decide) (ez_Ycn hT (q := fun j => p / 4 ^ j % 4) (by omega) hbp (ez_q4 p) ⟨?_, ez_mk hT hd hX hdr⟩))
      rw [ez_rgc hR, show hi - lo = 0 by omega]
      rfl
    · refine ez_Ygood hp1 hp hm (fun bp' hbp => br_f (by decide) (ez_Ycn hT (q := fun j => p / 4 ^ j % 4) (by omega) hbp (ez_q4 p) ⟨?_, ez_mk hT hd hX hdr⟩))
      rw [ez_rgc hR, pk_sub (by omega)]
section
variable {gs : Int32} {bp : Nat → Int32} {tx le : Nat → Nat} {postY : Int32 → SY → Prop} {q : Nat → Nat} {k : Nat} {x2 : Int32}
theorem ez_Ypl32 (hT : ez_T tx le) (hk : k ≤ 8) (hq : ∀ i, i < k → bp i = nI (q (k - 1 - i))) (hq4 : ∀ i, q i < 4) {x : Nat} (hx : ez_En le x) {J : Int32 → Prop}
    (h1 : nI (ez_c (fun o => (ez_En le o ∧ ez_px (ez_pl q k) (ez_ct tx le o)) ∧ ez_B tx le o x) 96) = x2 → postY (nI x) (nI k, ez_n tx, ez_n le, bp))
    (h0 : ¬ nI (ez_c (fun o => (ez_En le o ∧ ez_px (ez_pl q k) (ez_ct tx le o)) ∧ ez_B tx le o x) 96) = x2 → J (nI (x + 1))) :
    ∀ d i, i + d = 96 → wY_place_32 postY J x2 (nI x) (nI k) (ez_n tx) (ez_n le) bp (d + 1) (nI (ez_c (fun o => (ez_En le o ∧ ez_px (ez_pl q k) (ez_ct tx le o)) ∧ ez_B tx le o x) i)) (nI i) := by
  intro d
  induction d with
  | zero =>
    intro i hi
    obtain rfl : i = 96 := by omega
    exact br_t (nI_le (a := 96) (b := 96) (by omega) (by omega)) (br_c h1 (fun z => nm_r (nI_1 x) (h0 z)))
  | succ d ih =>
    intro i hi
    have W := ih (i + 1) (by omega)
    refine br_f (nI_ge (a := i) (b := 96) (by omega) (by omega)) (ez_Yst hT hk hq hq4 (by omega) (fun z => br_f (by decide) (ez_YcB hT z.1 hx (fun b => br_f (by decide) (nm_r (nI_1 _) (nm_r (nI_1 i) ?_))) (fun b => br_t rfl (nm_r (nI_1 i) ?_)))) (fun z => br_t rfl (nm_r (nI_1 i) ?_)))
    · rw [ez_cst (P := fun o => (ez_En le o ∧ ez_px (ez_pl q k) (ez_ct tx le o)) ∧ ez_B tx le o x) ⟨z, b⟩] at W; exact W
    · rw [ez_csn (P := fun o => (ez_En le o ∧ ez_px (ez_pl q k) (ez_ct tx le o)) ∧ ez_B tx le o x) (fun y => b y.2)] at W; exact W
    · rw [ez_csn (P := fun o => (ez_En le o ∧ ez_px (ez_pl q k) (ez_ct tx le o)) ∧ ez_B tx le o x) (fun y => z y.1)] at W; exact W
theorem ez_Ypl12 (hT : ez_T tx le) (hk : k ≤ 8) (hq : ∀ i, i < k → bp i = nI (q (k - 1 - i))) (hq4 : ∀ i, q i < 4)
    (h1 : ∀ x, ez_En le x → ez_px (ez_pl q k) (ez_ct tx le x) → nI (ez_c (fun o => (ez_En le o ∧ ez_px (ez_pl q k) (ez_ct tx le o)) ∧ ez_B tx le o x) 96) = x2 → postY (nI x) (nI k, ez_n tx, ez_n le, bp))
    (h0 : (∀ x, ez_En le x → ez_px (ez_pl q k) (ez_ct tx le x) → nI (ez_c (fun o => (ez_En le o ∧ ez_px (ez_pl q k) (ez_ct tx le o)) ∧ ez_B tx le o x) 96) ≠ x2) → postY (-4) (nI k, ez_n tx, ez_n le, bp)) :
    ∀ d i, i + d = 96 → (∀ x, x < i → ez_En le x → ez_px (ez_pl q k) (ez_ct tx le x) → nI (ez_c (fun o => (ez_En le o ∧ ez_px (ez_pl q k) (ez_ct tx le o)) ∧ ez_B tx le o x) 96) ≠ x2) → wY_place_12 postY x2 (nI k) (ez_n tx) (ez_n le) bp (d + 1) (nI i) := by
  intro d
  induction d with
  | zero =>
    intro i hi g
    obtain rfl : i = 96 := by omega
    exact br_t (nI_le (a := 96) (b := 96) (by omega) (by omega)) (h0 (fun x hx => g x hx.1 hx))
  | succ d ih =>
    intro i hi g
    refine br_f (nI_ge (a := i) (b := 96) (by omega) (by omega)) (ez_Yst hT hk hq hq4 (by omega) (fun z => br_f (by decide) (Exists.intro 97 (ez_Ypl32 hT hk hq hq4 z.1 (fun y => h1 i z.1 z.2 y) (fun y => ih (i + 1) (by omega) ?_) 96 0 rfl))) (fun z => br_t rfl (nm_r (nI_1 i) (ih (i + 1) (by omega) ?_))))
    · intro x hxi hE hp
      by_cases w : x = i
      · rw [w]; exact y
      · exact g x (by omega) hE hp
    · intro x hxi hE hp
      by_cases w : x = i
      · rw [w] at hE hp; exact absurd ⟨hE, hp⟩ z
      · exact g x (by omega) hE hp
end
theorem i_vc_place {k : Nat} {u : SX} {v : SY} (I : i_Rel k u v) (hk : k + 3 ≤ 1536) (v1 : Int32) (v2 : Int32) : wpX_place (fun r u' => wpY_place (fun r' v' => r' = r ∧ i_Rel (k + 3) u' v') v v1 v2) u v1 v2 := by
  refine ez_el (P := fun u v => wpX_place (fun r u' => wpY_place (fun r' v' => r' = r ∧ i_Rel (k + 3) u' v') v v1 v2) u v1 v2) ?_ I
  intro fd fs fp fl fh ad ar al ap aq aw an gs bp tx le hT hd hX hdr
  unfold wpX_place wpY_place
  dsimp only
  rcases ez_gb v1 with hb | ⟨p, m, hp1, hp, rfl, hm⟩
  · exact ez_Xbad hb (fun _ _ => br_t rfl (ez_Ybad hb (fun _ _ => br_t rfl ⟨rfl, ez_mk hT hd hX hdr⟩)))
  · have m6 := ez_k6 hp hm
    have s60 := ez_size hT
    have hB := ez_BLO tx le
    refine ez_Xgood hp1 hp hm (fun ap' hap => br_f (by decide) (ez_Xnarrow hT hX (q := fun j => p / 4 ^ j % 4) (by omega) hap (ez_q4 p) (fun lo hi hR => ?_)))
    have g1 := hR.1
    have g2 := hR.2.1
    by_cases h0 : v2 < 0
    · refine br_t h0 (ez_Ygood hp1 hp hm (fun bp' hbp => br_f (by decide) (Exists.intro 97 (ez_Ypl12 hT (q := fun j => p / 4 ^ j % 4) (by omega) hbp (ez_q4 p) (fun x hx hpx y => ?_) (fun _ => ⟨rfl, ez_mk hT hd hX hdr⟩) 96 0 rfl (fun x h => absurd h (Nat.not_lt_zero x))))))
      exfalso
      rw [ez_rgb hR hx hpx] at y
      have rl := ez_rklt hB (S := ez_En le) hx.1 hx
      rw [← y] at h0
      exact nI_pos (by omega) h0
    · obtain ⟨j, hj, rfl⟩ := nI_of h0
      refine br_f h0 ?_
      rw [pk_sub g1]
      refine pk_lt j (hi - lo) (fun z => ?_) (fun z => ?_)
      · obtain ⟨e, he, hS, hr⟩ := ez_surj hB (S := ez_En le) (r := lo + j) (by omega)
        rw [nI_add, ← hr]
        refine ez_XnumberOf hT hX hS ?_
        have pe := (hR.2.2 e hS).mpr (by rw [hr]; omega)
        refine ez_Ygood hp1 hp hm (fun bp' hbp => br_f (by decide) (Exists.intro 97 (ez_Ypl12 hT (q := fun j => p / 4 ^ j % 4) (by omega) hbp (ez_q4 p) (fun x hx hpx y => ⟨?_, ez_mk hT hd hX hdr⟩) (fun y => ?_) 96 0 rfl (fun x h => absurd h (Nat.not_lt_zero x)))))
        · refine absurd ?_ (y e hS pe)
          rw [ez_rgb hR hS pe, hr]
          exact congrArg nI (by omega)
        · rw [ez_rgb hR hx hpx] at y
          have rl := ez_rklt hB (S := ez_En le) hx.1 hx
          have rg := (hR.2.2 x hx).mp hpx
          rw [nI_eq (by omega) (by omega)] at y
          rw [ez_rkinj hB hx.1 hx he hS (by rw [hr]; omega)]
      · refine ez_Ygood hp1 hp hm (fun bp' hbp => br_f (by decide) (Exists.intro 97 (ez_Ypl12 hT (q := fun j => p / 4 ^ j % 4) (by omega) hbp (ez_q4 p) (fun x hx hpx y => ?_) (fun _ => ⟨rfl, ez_mk hT hd hX hdr⟩) 96 0 rfl (fun x h => absurd h (Nat.not_lt_zero x)))))
        exfalso
        rw [ez_rgb hR hx hpx] at y
        have rl := ez_rklt hB (S := ez_En le) hx.1 hx
        have rg := (hR.2.2 x hx).mp hpx
        rw [nI_eq (by omega) (by omega)] at y
        omega
end
section
/-! slots, after, before -/
section
variable {fd fs fp fl fh : Int32} {ad ar al ap aq aw an : Nat → Int32} {tx le : Nat → Nat} {postX : Int32 → SX → Prop} {lo hi : Nat}
theorem ez_Xsl24 (hT : ez_T tx le) (hX : ez_XS tx le (ez_En le) fs ar al) (hh : hi ≤ ez_c (ez_En le) 96)
    (h : ∀ x3, ez_hb x3 (fun j => ∃ e, ez_En le e ∧ (lo ≤ ez_rk (ez_B tx le) (ez_En le) e ∧ ez_rk (ez_B tx le) (ez_En le) e < hi) ∧ e / 16 = j) → postX x3 (fd, fs, fp, nI lo, nI hi, ad, ar, al, ap, aq, aw, an)) :
    ∀ d r x3, r + d = hi → lo ≤ r → ez_hb x3 (fun j => ∃ e, ez_En le e ∧ (lo ≤ ez_rk (ez_B tx le) (ez_En le) e ∧ ez_rk (ez_B tx le) (ez_En le) e < r) ∧ e / 16 = j) → wX_slots_24 postX fd fs fp (nI lo) (nI hi) ad ar al ap aq aw an (d + 1) x3 (nI r) := by
  have s60 := ez_size hT
  have hB := ez_BLO tx le
  intro d
  induction d with
  | zero =>
    intro r x3 hr hlo g
    obtain rfl : r = hi := by omega
    exact br_t (nI_le (Nat.le_refl r) (by omega)) (h x3 g)
  | succ d ih =>
    intro r x3 hr hlo g
    obtain ⟨e, he, hS, rfl⟩ := ez_surj hB (S := ez_En le) (r := r) (by omega)
    refine br_f (nI_ge (by omega) (by omega)) (ez_XnumberOf hT hX hS ?_)
    rw [ez_sh4 (show e < 2 ^ 31 by omega)]
    refine nm_e (nm_r (nI_1 _) (ih _ _ (by omega) (by omega) (ez_hbc (ez_hbs g (t := e / 16) (by omega)) (fun j _ => ⟨fun o => ?_, fun ⟨e', a, b, c⟩ => ?_⟩))))
    · rcases o with ⟨e', a, b, c⟩ | o
      · exact ⟨e', a, ⟨b.1, by omega⟩, c⟩
      · exact ⟨e, hS, ⟨hlo, by omega⟩, o.symm⟩
    · by_cases z : ez_rk (ez_B tx le) (ez_En le) e' = ez_rk (ez_B tx le) (ez_En le) e
      · refine Or.inr ?_
        rw [← c, ez_rkinj hB a.1 a he hS z]
      · exact Or.inl ⟨e', a, ⟨b.1, by omega⟩, c⟩
theorem ez_Xbf24 (hT : ez_T tx le) (hX : ez_XS tx le (ez_En le) fs ar al) (hh : hi ≤ ez_c (ez_En le) 96)
    (h : ∀ x3, ez_hb x3 (fun j => ∃ e, ez_En le e ∧ (lo ≤ ez_rk (ez_B tx le) (ez_En le) e ∧ ez_rk (ez_B tx le) (ez_En le) e < hi) ∧ ez_pr tx e = j ∧ j < 4) → postX x3 (fd, fs, fp, nI lo, nI hi, ad, ar, al, ap, aq, aw, an)) :
    ∀ d r x3, r + d = hi → lo ≤ r → ez_hb x3 (fun j => ∃ e, ez_En le e ∧ (lo ≤ ez_rk (ez_B tx le) (ez_En le) e ∧ ez_rk (ez_B tx le) (ez_En le) e < r) ∧ ez_pr tx e = j ∧ j < 4) → wX_before_24 postX fd fs fp (nI lo) (nI hi) ad ar al ap aq aw an (d + 1) x3 (nI r) := by
  have s60 := ez_size hT
  have hB := ez_BLO tx le
  intro d
  induction d with
  | zero =>
    intro r x3 hr hlo g
    obtain rfl : r = hi := by omega
    exact br_t (nI_le (Nat.le_refl r) (by omega)) (h x3 g)
  | succ d ih =>
    intro r x3 hr hlo g
    obtain ⟨e, he, hS, rfl⟩ := ez_surj hB (S := ez_En le) (r := r) (by omega)
    have pb := ez_prB hT he
    refine br_f (nI_ge (by omega) (by omega)) (And.intro (vp_in_nI (by omega) (by omega)) ?_)
    rw [nI_clamp (show ez_rk (ez_B tx le) (ez_En le) e < 2 ^ 31 by omega), hX.2.2.2 e he hS]
    refine pk_le 4 (ez_pr tx e) (fun z => nm_r (nI_1 _) (ih _ _ (by omega) (by omega) (ez_hbc g (fun j _ => ⟨fun ⟨e', a, b, c⟩ => ⟨e', a, ⟨b.1, by omega⟩, c⟩, fun ⟨e', a, b, c⟩ => ⟨e', a, ⟨b.1, ?_⟩, c⟩⟩))))
      (fun z => And.intro (vp_in_nI (by omega) (by omega)) (nm_e (nm_r (nI_1 _) (ih _ _ (by omega) (by omega) (ez_hbc (ez_hbs g (t := ez_pr tx e) (by omega)) (fun j _ => ⟨fun o => ?_, fun ⟨e', a, b, c⟩ => ?_⟩))))))
    · by_cases w : ez_rk (ez_B tx le) (ez_En le) e' = ez_rk (ez_B tx le) (ez_En le) e
      · have q := ez_rkinj hB a.1 a he hS w
        rw [q] at c
        omega
      · omega
    · rcases o with ⟨e', a, b, c⟩ | o
      · exact ⟨e', a, ⟨b.1, by omega⟩, c⟩
      · exact ⟨e, hS, ⟨hlo, by omega⟩, o.symm, by omega⟩
    · by_cases w : ez_rk (ez_B tx le) (ez_En le) e' = ez_rk (ez_B tx le) (ez_En le) e
      · refine Or.inr ?_
        rw [← c.1, ez_rkinj hB a.1 a he hS w]
      · exact Or.inl ⟨e', a, ⟨b.1, by omega⟩, c⟩
end
section
variable {gs : Int32} {bp : Nat → Int32} {tx le : Nat → Nat} {postY : Int32 → SY → Prop} {q : Nat → Nat} {k : Nat}
theorem ez_Ysl14 (hT : ez_T tx le) (hk : k ≤ 8) (hq : ∀ i, i < k → bp i = nI (q (k - 1 - i))) (hq4 : ∀ i, q i < 4)
    (h : ∀ x2, ez_hb x2 (fun j => ∃ e, e < 96 ∧ (ez_En le e ∧ ez_px (ez_pl q k) (ez_ct tx le e)) ∧ e / 16 = j) → postY x2 (nI k, ez_n tx, ez_n le, bp)) :
    ∀ d i x2, i + d = 96 → ez_hb x2 (fun j => ∃ e, e < i ∧ (ez_En le e ∧ ez_px (ez_pl q k) (ez_ct tx le e)) ∧ e / 16 = j) → wY_slots_14 postY (nI k) (ez_n tx) (ez_n le) bp (d + 1) x2 (nI i) := by
  intro d
  induction d with
  | zero =>
    intro i x2 hi g
    obtain rfl : i = 96 := by omega
    exact br_t (nI_le (a := 96) (b := 96) (by omega) (by omega)) (h x2 g)
  | succ d ih =>
    intro i x2 hi g
    refine br_f (nI_ge (a := i) (b := 96) (by omega) (by omega)) (ez_Yst hT hk hq hq4 (by omega) (fun z => br_f (by decide) (And.intro (by decide) ?_)) (fun z => br_t rfl (nm_r (nI_1 i) (ih _ _ (by omega) (ez_hbc g (fun j _ => ⟨fun ⟨e, a, b, c⟩ => ⟨e, by omega, b, c⟩, fun ⟨e, a, b, c⟩ => ⟨e, ?_, b, c⟩⟩))))))
    · rw [ez_d16 (show i < 2 ^ 31 by omega)]
      refine nm_e (nm_r (nI_1 i) (ih _ _ (by omega) (ez_hbc (ez_hbs g (t := i / 16) (by omega)) (fun j _ => ⟨fun o => ?_, fun ⟨e, a, b, c⟩ => ?_⟩))))
      · rcases o with ⟨e, a, b, c⟩ | o
        · exact ⟨e, by omega, b, c⟩
        · exact ⟨i, by omega, z, o.symm⟩
      · by_cases w : e = i
        · exact Or.inr (by rw [← c, w])
        · exact Or.inl ⟨e, by omega, b, c⟩
    · by_cases w : e = i
      · rw [w] at b; exact absurd b z
      · omega
end
theorem i_vc_slots {k : Nat} {u : SX} {v : SY} (I : i_Rel k u v) (hk : k + 3 ≤ 1536) (v1 : Int32) : wpX_slots (fun r u' => wpY_slots (fun r' v' => r' = r ∧ i_Rel (k + 3) u' v') v v1) u v1 := by
  refine ez_el (P := fun u v => wpX_slots (fun r u' => wpY_slots (fun r' v' => r' = r ∧ i_Rel (k + 3) u' v') v v1) u v1) ?_ I
  intro fd fs fp fl fh ad ar al ap aq aw an gs bp tx le hT hd hX hdr
  unfold wpX_slots wpY_slots
  dsimp only
  rcases ez_gb v1 with hb | ⟨p, m, hp1, hp, rfl, hm⟩
  · exact ez_Xbad hb (fun _ _ => br_t rfl (ez_Ybad hb (fun _ _ => br_t rfl ⟨rfl, ez_mk hT hd hX hdr⟩)))
  · have m6 := ez_k6 hp hm
    refine ez_Xgood hp1 hp hm (fun ap' hap => br_f (by decide) (ez_Xnarrow hT hX (q := fun j => p / 4 ^ j % 4) (by omega) hap (ez_q4 p) (fun lo hi hR => ?_)))
    have g1 := hR.1
    refine Exists.intro (hi - lo + 1) (ez_Xsl24 hT hX hR.2.1 (fun x3 hx3 => ?_) (hi - lo) lo 0 (by omega) (Nat.le_refl _) (ez_hb0 (fun j ⟨e, a, b, c⟩ => by omega)))
    refine ez_Ygood hp1 hp hm (fun bp' hbp => br_f (by decide) (Exists.intro 97 (ez_Ysl14 hT (q := fun j => p / 4 ^ j % 4) (by omega) hbp (ez_q4 p) (fun x2 hx2 => ⟨?_, ez_mk hT hd hX hdr⟩) 96 0 0 rfl (ez_hb0 (fun j ⟨e, a, b, c⟩ => absurd a (Nat.not_lt_zero e))))))
    refine ez_hbe hx2 hx3 (fun j _ => ⟨fun ⟨e, a, b, c⟩ => ⟨e, b.1, (hR.2.2 e b.1).mp b.2, c⟩, fun ⟨e, a, b, c⟩ => ⟨e, a.1, ⟨a, (hR.2.2 e a).mpr b⟩, c⟩⟩)
section
variable {gs : Int32} {bp : Nat → Int32} {tx le : Nat → Nat} {postY : Int32 → SY → Prop} {q : Nat → Nat} {k : Nat}
/-- one letter more at the end, at the begin -/
def ez_qa (q : Nat → Nat) (l : Nat) : Nat → Nat := fun i => if i = 0 then l else q (i - 1)
def ez_qb (q : Nat → Nat) (k l : Nat) : Nat → Nat := fun i => if i = k then l else q i
theorem ez_qa4 (hq4 : ∀ i, q i < 4) {l : Nat} (hl : l < 4) (i : Nat) : ez_qa q l i < 4 := by
  unfold ez_qa
  split
  · exact hl
  · exact hq4 _
theorem ez_qb4 (hq4 : ∀ i, q i < 4) {l : Nat} (hl : l < 4) (i : Nat) : ez_qb q k l i < 4 := by
  unfold ez_qb
  split
  · exact hl
  · exact hq4 _
theorem ez_qbl (l : Nat) : ez_pl (ez_qb q k l) (k + 1) = l :: ez_pl q k := by
  show ez_qb q k l k :: ez_pl (ez_qb q k l) k = _
  rw [show ez_qb q k l k = l from if_pos rfl, ez_plc (q := ez_qb q k l) (q' := q) k (fun i hi => if_neg (by omega))]
theorem ez_Ybf53 (hT : ez_T tx le) (hk : k ≤ 6) (hq4 : ∀ i, q i < 4)
    (h : ∀ x2 bp, ez_hb x2 (fun j => j < 4 ∧ ∃ e, ez_En le e ∧ ez_px (j :: ez_pl q k) (ez_ct tx le e)) → postY x2 (nI (k + 1), ez_n tx, ez_n le, bp)) :
    ∀ d l x2 bp, l + d = 4 → (∀ j, 1 ≤ j → j ≤ k → bp j = nI (q (k - j))) → ez_hb x2 (fun j => j < l ∧ ∃ e, ez_En le e ∧ ez_px (j :: ez_pl q k) (ez_ct tx le e)) → wY_before_53 postY (nI (k + 1)) (d + 1) x2 (nI l) (ez_n tx) (ez_n le) bp := by
  intro d
  induction d with
  | zero =>
    intro l x2 bp hl hbp g
    obtain rfl : l = 4 := by omega
    exact br_t (nI_le (a := 4) (b := 4) (by omega) (by omega)) (h x2 bp g)
  | succ d ih =>
    intro l x2 bp hl hbp g
    have hbp' : ∀ i, i < k + 1 → upd bp 0 (nI l) i = nI (ez_qb q k l (k + 1 - 1 - i)) := by
      intro i hi
      by_cases z : i = 0
      · rw [z, pk_us, show ez_qb q k l (k + 1 - 1 - 0) = l from if_pos (by omega)]
      · rw [pk_un z, show ez_qb q k l (k + 1 - 1 - i) = q (k + 1 - 1 - i) from if_neg (by omega), hbp i (by omega) (by omega)]
        exact congrArg (fun z => nI (q z)) (by omega)
    have hbp2 : ∀ j, 1 ≤ j → j ≤ k → upd bp 0 (nI l) j = nI (q (k - j)) := by
      intro j h1 h2
      rw [pk_un (by omega)]; exact hbp j h1 h2
    have cB := ez_cle (fun x => ez_En le x ∧ ez_px (ez_pl (ez_qb q k l) (k + 1)) (ez_ct tx le x)) 96
    refine br_f (nI_ge (a := l) (b := 4) (by omega) (by omega)) (nm_e (ez_Ycn hT (by omega) hbp' (ez_qb4 hq4 (by omega)) (pk_le (ez_c (fun x => ez_En le x ∧ ez_px (ez_pl (ez_qb q k l) (k + 1)) (ez_ct tx le x)) 96) 0 (fun z => ?_) (fun z => ?_))))
    · refine nm_r (nI_1 l) (ih _ _ _ (by omega) hbp2 (ez_hbc g (fun j _ => ⟨fun o => ⟨by omega, o.2⟩, fun o => ⟨?_, o.2⟩⟩)))
      by_cases w : j = l
      · exfalso
        obtain ⟨e, he, hpx⟩ := o.2
        rw [w, ← ez_qbl] at hpx
        have := ez_cpos (P := fun x => ez_En le x ∧ ez_px (ez_pl (ez_qb q k l) (k + 1)) (ez_ct tx le x)) ⟨he, hpx⟩ he.1
        omega
      · omega
    · refine nm_e (nm_r (nI_1 l) (ih _ _ _ (by omega) hbp2 (ez_hbc (ez_hbs g (t := l) (by omega)) (fun j _ => ⟨fun o => ?_, fun o => ?_⟩))))
      · rcases o with o | o
        · exact ⟨by omega, o.2⟩
        · obtain ⟨e, he, hpx⟩ := ez_cex z
          have hpx2 := hpx.2
          rw [ez_qbl] at hpx2
          rw [o]
          exact ⟨by omega, e, hpx.1, hpx2⟩
      · by_cases w : j = l
        · exact Or.inr w
        · exact Or.inl ⟨by omega, o.2⟩
theorem ez_Ybf15 (hT : ez_T tx le) (hk : k ≤ 6) (hq4 : ∀ i, q i < 4) {bp0 : Nat → Int32} (hbp0 : ∀ j, j < k → bp0 j = nI (q (k - 1 - j)))
    (h : ∀ x2 bp, ez_hb x2 (fun j => j < 4 ∧ ∃ e, ez_En le e ∧ ez_px (j :: ez_pl q k) (ez_ct tx le e)) → postY x2 (nI (k + 1), ez_n tx, ez_n le, bp)) :
    ∀ d bp, d ≤ k → (∀ j, j < d → bp j = bp0 j) → (∀ j, d ≤ j → j < k → bp (j + 1) = bp0 j) → wY_before_15 postY (nI k) (d + 1) (nI d) (ez_n tx) (ez_n le) bp := by
  intro d
  induction d with
  | zero =>
    intro bp hd h1 h2
    refine br_t (by decide) (nm_r (nI_1 k) (Exists.intro 5 (ez_Ybf53 hT hk hq4 h 4 0 0 bp rfl (fun j j1 jk => ?_) (ez_hb0 (fun j o => absurd o.1 (Nat.not_lt_zero j))))))
    obtain ⟨i, rfl⟩ : ∃ i, j = i + 1 := ⟨j - 1, by omega⟩
    rw [h2 i (by omega) (by omega), hbp0 i (by omega)]
    exact congrArg (fun z => nI (q z)) (by omega)
  | succ d ih =>
    intro bp hd h1 h2
    refine br_f (nI_ge (a := 0) (by omega) (by omega)) ?_
    rw [nI_pred, nI_clamp (show d < 2 ^ 31 by omega), nI_clamp (show d + 1 < 2 ^ 31 by omega)]
    refine And.intro (vp_in_nI (by omega) (by omega)) (And.intro (vp_in_nI (by omega) (by omega)) (nm_e (nm_r (pk_m1 d) (ih _ (by omega) (fun j hj => ?_) (fun j hj hjk => ?_)))))
    · rw [pk_un (by omega)]; exact h1 j (by omega)
    · by_cases z : j = d
      · rw [z, pk_us]; exact h1 d (by omega)
      · rw [pk_un (by omega)]; exact h2 j (by omega) hjk
theorem ez_Yaf24 (hT : ez_T tx le) (hk : k ≤ 6) (hq4 : ∀ i, q i < 4)
    (h : ∀ x2 bp, ez_hb x2 (fun j => j < 4 ∧ ∃ e, ez_En le e ∧ ez_px (ez_pl (ez_qa q j) (k + 1)) (ez_ct tx le e)) → postY x2 (nI (k + 1), ez_n tx, ez_n le, bp)) :
    ∀ d l x2 bp, l + d = 4 → (∀ j, j < k → bp j = nI (q (k - 1 - j))) → ez_hb x2 (fun j => j < l ∧ ∃ e, ez_En le e ∧ ez_px (ez_pl (ez_qa q j) (k + 1)) (ez_ct tx le e)) → wY_after_24 postY (nI (k + 1)) (d + 1) x2 (nI l) (ez_n tx) (ez_n le) bp := by
  intro d
  induction d with
  | zero =>
    intro l x2 bp hl hbp g
    obtain rfl : l = 4 := by omega
    exact br_t (nI_le (a := 4) (b := 4) (by omega) (by omega)) (h x2 bp g)
  | succ d ih =>
    intro l x2 bp hl hbp g
    have hbp' : ∀ i, i < k + 1 → upd bp k (nI l) i = nI (ez_qa q l (k + 1 - 1 - i)) := by
      intro i hi
      by_cases z : i = k
      · rw [z, pk_us, show ez_qa q l (k + 1 - 1 - k) = l from if_pos (by omega)]
      · rw [pk_un z, show ez_qa q l (k + 1 - 1 - i) = q (k + 1 - 1 - i - 1) from if_neg (by omega), hbp i (by omega)]
        exact congrArg (fun z => nI (q z)) (by omega)
    have hbp2 : ∀ j, j < k → upd bp k (nI l) j = nI (q (k - 1 - j)) := by
      intro j h1
      rw [pk_un (by omega)]; exact hbp j h1
    have cB := ez_cle (fun x => ez_En le x ∧ ez_px (ez_pl (ez_qa q l) (k + 1)) (ez_ct tx le x)) 96
    refine br_f (nI_ge (a := l) (b := 4) (by omega) (by omega)) ?_
    rw [nI_pred, nI_clamp (show k < 2 ^ 31 by omega)]
    refine And.intro (vp_in_nI (by omega) (by omega)) (nm_e (ez_Ycn hT (by omega) hbp' (ez_qa4 hq4 (by omega)) (pk_le (ez_c (fun x => ez_En le x ∧ ez_px (ez_pl (ez_qa q l) (k + 1)) (ez_ct tx le x)) 96) 0 (fun z => ?_) (fun z => ?_))))
    · refine nm_r (nI_1 l) (ih _ _ _ (by omega) hbp2 (ez_hbc g (fun j _ => ⟨fun o => ⟨by omega, o.2⟩, fun o => ⟨?_, o.2⟩⟩)))
      by_cases w : j = l
      · exfalso
        obtain ⟨e, he, hpx⟩ := o.2
        rw [w] at hpx
        have := ez_cpos (P := fun x => ez_En le x ∧ ez_px (ez_pl (ez_qa q l) (k + 1)) (ez_ct tx le x)) ⟨he, hpx⟩ he.1
        omega
      · omega
    · refine nm_e (nm_r (nI_1 l) (ih _ _ _ (by omega) hbp2 (ez_hbc (ez_hbs g (t := l) (by omega)) (fun j _ => ⟨fun o => ?_, fun o => ?_⟩))))
      · rcases o with o | o
        · exact ⟨by omega, o.2⟩
        · obtain ⟨e, he, hpx⟩ := ez_cex z
          rw [o]
          exact ⟨by omega, e, hpx⟩
      · by_cases w : j = l
        · exact Or.inr w
        · exact Or.inl ⟨by omega, o.2⟩
end
theorem i_vc_before {k : Nat} {u : SX} {v : SY} (I : i_Rel k u v) (hk : k + 3 ≤ 1536) (v1 : Int32) : wpX_before (fun r u' => wpY_before (fun r' v' => r' = r ∧ i_Rel (k + 3) u' v') v v1) u v1 := by
  refine ez_el (P := fun u v => wpX_before (fun r u' => wpY_before (fun r' v' => r' = r ∧ i_Rel (k + 3) u' v') v v1) u v1) ?_ I
  intro fd fs fp fl fh ad ar al ap aq aw an gs bp tx le hT hd hX hdr
  unfold wpX_before wpY_before
  dsimp only
  rcases ez_gb v1 with hb | ⟨p, m, hp1, hp, rfl, hm⟩
  · exact ez_Xbad hb (fun _ _ => br_t rfl (ez_Ybad hb (fun _ _ => br_t rfl ⟨rfl, ez_mk hT hd hX hdr⟩)))
  · have m6 := ez_k6 hp hm
    refine ez_Xgood hp1 hp hm (fun ap' hap => br_f (by decide) (ez_Xnarrow hT hX (q := fun j => p / 4 ^ j % 4) (by omega) hap (ez_q4 p) (fun lo hi hR => ?_)))
    have g1 := hR.1
    refine Exists.intro (hi - lo + 1) (ez_Xbf24 hT hX hR.2.1 (fun x3 hx3 => ?_) (hi - lo) lo 0 (by omega) (Nat.le_refl _) (ez_hb0 (fun j ⟨e, a, b, c⟩ => by omega)))
    refine ez_Ygood hp1 hp hm (fun bp' hbp => br_f (by decide) (Exists.intro (m + 1) (ez_Ybf15 hT (q := fun j => p / 4 ^ j % 4) m6 (ez_q4 p) hbp (fun x2 bp2 hx2 => ⟨?_, ez_mk hT hd hX hdr⟩) m bp' (Nat.le_refl _) (fun _ _ => rfl) (fun j a b => by omega))))
    refine ez_hbe hx2 hx3 (fun j _ => ⟨fun ⟨j4, e, he, hpx⟩ => ?_, fun ⟨e, he, hr, hpr, j4⟩ => ⟨j4, ?_⟩⟩)
    · have q := (ez_pxc hT _ j e).mp hpx
      have e95 : e < 95 := by
        have h1 := he.1
        have h2 := q.1
        have h9 := hT.2 (e / 16)
        unfold ez_sz at h2
        omega
      have g := (ez_EnS hT e95).mp ⟨he, q.1⟩
      exact ⟨e + 1, g.1, (hR.2.2 (e + 1) g.1).mp q.2.2, by rw [ez_prs g.2]; exact q.2.1, j4⟩
    · have ne : ¬ e % 16 = 0 := fun z => by
        rw [ez_pr0 z] at hpr
        omega
      obtain ⟨y, rfl⟩ : ∃ y, e = y + 1 := ⟨e - 1, by omega⟩
      have g := (ez_EnS hT (show y < 95 by have := he.1; omega)).mpr ⟨he, ne⟩
      rw [ez_prs ne] at hpr
      exact ⟨y, g.1, (ez_pxc hT _ j y).mpr ⟨g.2, hpr, (hR.2.2 (y + 1) he).mpr hr⟩⟩
section
variable {fd fs fp fl fh : Int32} {ad ar al ap aq aw an : Nat → Int32} {tx le : Nat → Nat} {postX : Int32 → SX → Prop} {q : Nat → Nat} {k : Nat}
theorem ez_Xaf60 (hT : ez_T tx le) (hX : ez_XS tx le (ez_En le) fs ar al) (hk : k ≤ 6) (hq4 : ∀ i, q i < 4)
    (h : ∀ x4 fl fh ap, ez_hb x4 (fun j => j < 4 ∧ ∃ e, ez_En le e ∧ ez_px (ez_pl (ez_qa q j) (k + 1)) (ez_ct tx le e)) → postX x4 (fd, fs, nI (k + 1), fl, fh, ad, ar, al, ap, aq, aw, an)) :
    ∀ d l x4 fl fh ap, l + d = 4 → (∀ j, j < k → ap (j + 1) = nI (q j)) → ez_hb x4 (fun j => j < l ∧ ∃ e, ez_En le e ∧ ez_px (ez_pl (ez_qa q j) (k + 1)) (ez_ct tx le e)) → wX_after_60 postX (d + 1) x4 (nI l) fd fs (nI (k + 1)) fl fh ad ar al ap aq aw an := by
  intro d
  induction d with
  | zero =>
    intro l x4 fl fh ap hl hap g
    obtain rfl : l = 4 := by omega
    exact br_t (nI_le (a := 4) (b := 4) (by omega) (by omega)) (h x4 fl fh ap g)
  | succ d ih =>
    intro l x4 fl fh ap hl hap g
    have hap' : ∀ i, i < k + 1 → upd ap 0 (nI l) i = nI (ez_qa q l i) := by
      intro i hi
      by_cases z : i = 0
      · rw [z, pk_us, show ez_qa q l 0 = l from if_pos rfl]
      · obtain ⟨j, rfl⟩ : ∃ j, i = j + 1 := ⟨i - 1, by omega⟩
        rw [pk_un z, show ez_qa q l (j + 1) = q j from if_neg (by omega)]
        exact hap j (by omega)
    have hap2 : ∀ j, j < k → upd ap 0 (nI l) (j + 1) = nI (q j) := by
      intro j hj
      rw [pk_un (by omega)]; exact hap j hj
    have s60 := ez_size hT
    refine br_f (nI_ge (a := l) (b := 4) (by omega) (by omega)) (nm_e (ez_Xnarrow hT hX (by omega) hap' (ez_qa4 hq4 (by omega)) (fun lo hi hR => ?_)))
    have g1 := hR.1
    have g2 := hR.2.1
    have gc := ez_rgc hR
    refine pk_le hi lo (fun z => ?_) (fun z => ?_)
    · refine nm_r (nI_1 l) (ih _ _ _ _ _ (by omega) hap2 (ez_hbc g (fun j _ => ⟨fun o => ⟨by omega, o.2⟩, fun o => ⟨?_, o.2⟩⟩)))
      by_cases w : j = l
      · exfalso
        obtain ⟨e, he, hpx⟩ := o.2
        rw [w] at hpx
        have := ez_cpos (P := fun x => ez_En le x ∧ ez_px (ez_pl (ez_qa q l) (k + 1)) (ez_ct tx le x)) ⟨he, hpx⟩ he.1
        omega
      · omega
    · refine nm_e (nm_r (nI_1 l) (ih _ _ _ _ _ (by omega) hap2 (ez_hbc (ez_hbs g (t := l) (by omega)) (fun j _ => ⟨fun o => ?_, fun o => ?_⟩))))
      · rcases o with o | o
        · exact ⟨by omega, o.2⟩
        · obtain ⟨e, he, hpx⟩ := ez_cex (P := fun x => ez_En le x ∧ ez_px (ez_pl (ez_qa q l) (k + 1)) (ez_ct tx le x)) (N := 96) (by omega)
          rw [o]
          exact ⟨by omega, e, hpx⟩
      · by_cases w : j = l
        · exact Or.inr w
        · exact Or.inl ⟨by omega, o.2⟩
theorem ez_Xaf20 (hT : ez_T tx le) (hX : ez_XS tx le (ez_En le) fs ar al) (hk : k ≤ 6) (hq4 : ∀ i, q i < 4) {ap0 : Nat → Int32} (hap0 : ∀ j, j < k → ap0 j = nI (q j))
    (h : ∀ x4 fl fh ap, ez_hb x4 (fun j => j < 4 ∧ ∃ e, ez_En le e ∧ ez_px (ez_pl (ez_qa q j) (k + 1)) (ez_ct tx le e)) → postX x4 (fd, fs, nI (k + 1), fl, fh, ad, ar, al, ap, aq, aw, an)) :
    ∀ d ap, d ≤ k → (∀ j, j < d → ap j = ap0 j) → (∀ j, d ≤ j → j < k → ap (j + 1) = ap0 j) → wX_after_20 postX (nI k) fd fs (nI k) fl fh (d + 1) (nI d) ad ar al ap aq aw an := by
  intro d
  induction d with
  | zero =>
    intro ap hd h1 h2
    refine br_t (by decide) (nm_r (nI_1 k) (Exists.intro 5 (ez_Xaf60 hT hX hk hq4 h 4 0 0 fl fh ap rfl (fun j jk => ?_) (ez_hb0 (fun j o => absurd o.1 (Nat.not_lt_zero j))))))
    rw [h2 j (by omega) jk, hap0 j jk]
  | succ d ih =>
    intro ap hd h1 h2
    refine br_f (nI_ge (a := 0) (by omega) (by omega)) ?_
    rw [nI_pred, nI_clamp (show d < 2 ^ 31 by omega), nI_clamp (show d + 1 < 2 ^ 31 by omega)]
    refine And.intro (vp_in_nI (by omega) (by omega)) (And.intro (vp_in_nI (by omega) (by omega)) (nm_e (nm_r (pk_m1 d) (ih _ (by omega) (fun j hj => ?_) (fun j hj hjk => ?_)))))
    · rw [pk_un (by omega)]; exact h1 j (by omega)
    · by_cases z : j = d
      · rw [z, pk_us]; exact h1 d (by omega)
      · rw [pk_un (by omega)]; exact h2 j (by omega) hjk
end
theorem i_vc_after {k : Nat} {u : SX} {v : SY} (I : i_Rel k u v) (hk : k + 3 ≤ 1536) (v1 : Int32) : wpX_after (fun r u' => wpY_after (fun r' v' => r' = r ∧ i_Rel (k + 3) u' v') v v1) u v1 := by
  refine ez_el (P := fun u v => wpX_after (fun r u' => wpY_after (fun r' v' => r' = r ∧ i_Rel (k + 3) u' v') v v1) u v1) ?_ I
  intro fd fs fp fl fh ad ar al ap aq aw an gs bp tx le hT hd hX hdr
  unfold wpX_after wpY_after
  dsimp only
  rcases ez_gb v1 with hb | ⟨p, m, hp1, hp, rfl, hm⟩
  · exact ez_Xbad hb (fun _ _ => br_t rfl (ez_Ybad hb (fun _ _ => br_t rfl ⟨rfl, ez_mk hT hd hX hdr⟩)))
  · have m6 := ez_k6 hp hm
    refine ez_Xgood hp1 hp hm (fun ap' hap => br_f (by decide) (Exists.intro (m + 1) (ez_Xaf20 hT hX (q := fun j => p / 4 ^ j % 4) m6 (ez_q4 p) hap (fun x4 fl2 fh2 ap2 hx4 => ?_) m ap' (Nat.le_refl _) (fun _ _ => rfl) (fun j a b => by omega))))
    refine ez_Ygood hp1 hp hm (fun bp' hbp => br_f (by decide) (nm_r (nI_1 m) (Exists.intro 5 (ez_Yaf24 hT (q := fun j => p / 4 ^ j % 4) m6 (ez_q4 p) (fun x2 bp2 hx2 => ⟨ez_hbe hx2 hx4 (fun _ _ => Iff.rfl), ez_mk hT hd hX hdr⟩) 4 0 0 bp' rfl hbp (ez_hb0 (fun j o => absurd o.1 (Nat.not_lt_zero j)))))))
end
section
/-! unpack, commonAt -/
def ez_UI (tx le : Nat → Nat) (s c : Nat) (aw an : Nat → Int32) : Prop :=
  (∀ e, ez_En le e → (e / 16 < s ∨ (e / 16 = s ∧ c ≤ e % 16)) → an (ez_rk (ez_B tx le) (ez_En le) e) = nI e) ∧
  (∀ t j, t < 6 → j < le t → (t < s ∨ (t = s ∧ c ≤ j + 1)) → aw (9 * t + j) = nI (tx (9 * t + j)))
def ez_UF (tx le : Nat → Nat) (aw an : Nat → Int32) : Prop :=
  (∀ e, ez_En le e → an (ez_rk (ez_B tx le) (ez_En le) e) = nI e) ∧ (∀ t j, t < 6 → j < le t → aw (9 * t + j) = nI (tx (9 * t + j)))
section
variable {fd fs fp fl fh : Int32} {ad ar al ap aq aw an : Nat → Int32} {tx le : Nat → Nat} {postS : SX → Prop} {s : Nat} {post : Int32 → Prop}
theorem ez_Xun21 (hT : ez_T tx le) (hX : ez_XS tx le (ez_En le) fs ar al) (hs : s < 6) (hl : 0 < le s)
    {J : Int32 → (Nat → Int32) → (Nat → Int32) → (Nat → Int32) → (Nat → Int32) → (Nat → Int32) → (Nat → Int32) → (Nat → Int32) → Prop}
    (hJ : ∀ aw an, ez_UI tx le s 0 aw an → J (nI (s + 1)) ad ar al ap aq aw an) :
    ∀ c x2 aw an, c ≤ le s + 1 → (1 ≤ c → x2 = nI (ez_rk (ez_B tx le) (ez_En le) (16 * s + (c - 1)))) → ez_UI tx le s c aw an → wX_unpack_21 postS J (nI s) fd fs fp fl fh (c + 1) x2 (nI c + (-1)) ad ar al ap aq aw an := by
  have l9 := hT.2 s
  have hB := ez_BLO tx le
  intro c
  induction c with
  | zero =>
    intro x2 aw an hc _ g
    exact br_t (by decide) (nm_r (nI_1 s) (hJ aw an g))
  | succ c ih =>
    intro x2 aw an hc hx g
    have e1 : (16 * s + c) / 16 = s := by omega
    have e2 : (16 * s + c) % 16 = c := by omega
    have en : ez_En le (16 * s + c) := ⟨by omega, by rw [e1]; exact hl, by rw [e1, e2]; omega⟩
    have rl := ez_rklt hB (S := ez_En le) en.1 en
    have s60 := ez_size hT
    have hx' := hx (by omega)
    rw [Nat.add_sub_cancel] at hx'
    subst hx'
    rw [pk_m1]
    have e16 : (16 : Int32) * nI s + nI c = nI (16 * s + c) := by
      show nI 16 * nI s + nI c = _
      rw [pk_mul, nI_add]
    have gn : ∀ e, ez_En le e → (e / 16 < s ∨ (e / 16 = s ∧ c ≤ e % 16)) → upd an (ez_rk (ez_B tx le) (ez_En le) (16 * s + c)) (nI (16 * s + c)) (ez_rk (ez_B tx le) (ez_En le) e) = nI e := by
      intro e he h
      by_cases z : e = 16 * s + c
      · rw [z, pk_us]
      · rw [pk_un (fun q => z (ez_rkinj hB he.1 he en.1 en q))]
        refine g.1 e he ?_
        rcases h with h | h
        · exact Or.inl h
        · exact Or.inr ⟨h.1, by omega⟩
    refine br_f (nI_pos (by omega)) (And.intro (vp_in_nI hs (by omega)) ?_)
    rw [nI_clamp (show s < 2 ^ 31 by omega), hX.2.2.1 s hs, e16, nI_clamp (show ez_rk (ez_B tx le) (ez_En le) (16 * s + c) < 2 ^ 31 by omega), hX.2.2.2 _ en.1 en]
    refine br_f (nI_ge (a := 0) hl (by omega)) (And.intro (vp_in_nI (by omega) (by omega)) (nm_e ?_))
    rcases c with _ | c
    · refine br_t (by decide) (nm_e (ih _ _ _ (by omega) (fun w => absurd w (by omega)) ⟨gn, fun t j ht hj h => g.2 t j ht hj ?_⟩))
      rcases h with h | h
      · exact Or.inl h
      · exact Or.inr ⟨h.1, by omega⟩
    · have ei : nI s * 9 + nI (c + 1) - 1 = nI (9 * s + c) := by
        show nI s * nI 9 + nI (c + 1) - nI 1 = _
        rw [pk_mul, nI_add, pk_sub (by omega)]
        exact congrArg nI (by omega)
      have ea : ez_at (16 * s + c) = 9 * s + c := by unfold ez_at; omega
      have ne : ¬ (16 * s + c + 1) % 16 = 0 := by omega
      refine br_f (nI_ge (a := 0) (by omega) (by omega)) (And.intro (vp_in_nI (by omega) (by omega)) ?_)
      rw [ei, nI_clamp (show 9 * s + c < 2 ^ 31 by omega)]
      refine And.intro (vp_in_nI (by omega) (by omega)) (nm_e (And.intro (vp_in_nI (by omega) (by omega)) ?_))
      refine ez_XstepE hT hX (e := 16 * s + c) en ne (nm_e (ih _ _ _ (by omega) (fun _ => by rw [Nat.add_sub_cancel]) ⟨gn, fun t j ht hj h => ?_⟩))
      by_cases z : 9 * t + j = 9 * s + c
      · have ep : ez_pr tx (16 * s + (c + 1)) = tx (ez_at (16 * s + c)) := ez_prs ne
        rw [z, pk_us, ep, ea]
      · rw [pk_un z]
        refine g.2 t j ht hj ?_
        rcases h with h | h
        · exact Or.inl h
        · refine Or.inr ⟨h.1, ?_⟩
          have h1 := h.1
          subst h1
          omega
theorem ez_UIn {tx le : Nat → Nat} {s : Nat} {aw an : Nat → Int32} (h : ez_UI tx le s 0 aw an) : ez_UI tx le (s + 1) (le (s + 1) + 1) aw an := by
  refine ⟨fun e he q => h.1 e he ?_, fun t j ht hj q => h.2 t j ht hj ?_⟩
  · rcases q with q | q
    · by_cases z : e / 16 = s
      · exact Or.inr ⟨z, by omega⟩
      · exact Or.inl (by omega)
    · have := he.2.2
      rw [q.1] at this
      omega
  · rcases q with q | q
    · by_cases z : t = s
      · exact Or.inr ⟨z, by omega⟩
      · exact Or.inl (by omega)
    · rw [q.1] at hj
      omega
theorem ez_UIz {tx le : Nat → Nat} {s : Nat} {aw an : Nat → Int32} (hl : le s = 0) (h : ez_UI tx le s (le s + 1) aw an) : ez_UI tx le s 0 aw an := by
  refine ⟨fun e he q => h.1 e he ?_, fun t j ht hj q => h.2 t j ht hj ?_⟩
  · rcases q with q | q
    · exact Or.inl q
    · have := he.2.1
      rw [q.1] at this
      omega
  · rcases q with q | q
    · exact Or.inl q
    · rw [q.1] at hj
      omega
theorem ez_Xun2 (hT : ez_T tx le) (hX : ez_XS tx le (ez_En le) fs ar al) (h : ∀ aw an, ez_UF tx le aw an → postS (fd, fs, fp, fl, fh, ad, ar, al, ap, aq, aw, an)) :
    ∀ d s aw an, s + d = 6 → ez_UI tx le s (le s + 1) aw an → wX_unpack_2 postS fd fs fp fl fh (d + 1) (nI s) ad ar al ap aq aw an := by
  intro d
  induction d with
  | zero =>
    intro s aw an hs g
    obtain rfl : s = 6 := by omega
    exact br_t (nI_le (a := 6) (b := 6) (by omega) (by omega)) (h aw an ⟨fun e he => g.1 e he (Or.inl (by have := he.1; omega)), fun t j ht hj => g.2 t j ht hj (Or.inl ht)⟩)
  | succ d ih =>
    intro s aw an hs g
    have s6 : s < 6 := by omega
    refine br_f (nI_ge (a := s) (b := 6) s6 (by omega)) (ez_Xbelow hX.2.2.1 hT.2 (by omega) (And.intro (vp_in_nI s6 (by omega)) ?_))
    rw [nI_clamp (show s < 2 ^ 31 by omega), hX.2.2.1 s s6]
    have J : ∀ aw an, ez_UI tx le s 0 aw an → wX_unpack_2 postS fd fs fp fl fh (d + 1) (nI (s + 1)) ad ar al ap aq aw an := fun aw an q => ih (s + 1) aw an (by omega) (ez_UIn q)
    by_cases z : le s = 0
    · rw [z]
      refine nm_e (Exists.intro 1 (br_f (by decide) (And.intro (vp_in_nI s6 (by omega)) (br_t ?_ (nm_r (nI_1 s) (J aw an (ez_UIz z g)))))))
      rw [nI_clamp (show s < 2 ^ 31 by omega), hX.2.2.1 s s6, z]
      decide
    · have l9 := hT.2 s
      refine nm_r (pk_m1 (le s)).symm (Exists.intro (le s + 1 + 1) (ez_Xun21 hT hX s6 (by omega) J (le s + 1) _ aw an (Nat.le_refl _) (fun _ => ?_) g))
      rw [Nat.add_sub_cancel, ez_rkB hT s6]
theorem ez_Xunpack (hT : ez_T tx le) (hX : ez_XS tx le (ez_En le) fs ar al) (h : ∀ aw an, ez_UF tx le aw an → postS (fd, fs, fp, fl, fh, ad, ar, al, ap, aq, aw, an)) : wpX_unpack postS (fd, fs, fp, fl, fh, ad, ar, al, ap, aq, aw, an) := by
  refine Exists.intro 7 (ez_Xun2 hT hX h 6 0 aw an rfl ⟨fun e he q => ?_, fun t j ht hj q => ?_⟩)
  · rcases q with q | q
    · omega
    · have := he.2.2
      rw [q.1] at this
      omega
  · rcases q with q | q
    · omega
    · rw [q.1] at hj
      omega
theorem ez_Xcm0 {a b k : Nat} (ha : a < 6) (hb : b < 6) (hk : k < 9) (h : post (nI k)) (n : Nat) (x4 x5 : Int32) : wX_commonAt_50 post (nI a) (nI b) fd fs fp fl fh ad ar al ap aq aw an (n + 1) x4 x5 (nI k) (nI (k + 1)) :=
  br_c (fun _ => h) (fun _ => And.intro (vp_in_nI ha (by omega)) (br_c (fun _ => h) (fun _ => And.intro (vp_in_nI hb (by omega)) (br_c (fun _ => h) (fun _ => br_f (fun q => by
    rw [nI_eq (by omega) (by omega)] at q
    omega) h)))))
theorem ez_Xcm50 (hT : ez_T tx le) (hl : ∀ s, s < 6 → al s = nI (le s)) (hU : ez_UF tx le aw an) {a b : Nat} (ha : ez_En le a) (hb : ez_En le b) :
    ∀ d k, k + d = 9 → post (nI (k + ez_lc (ez_w tx (ez_at a + k) (ez_sz le a - k)) (ez_w tx (ez_at b + k) (ez_sz le b - k)))) →
      wX_commonAt_50 post (nI (a / 16)) (nI (b / 16)) fd fs fp fl fh ad ar al ap aq aw an (d + 2) (nI (a % 16 + k)) (nI (b % 16 + k)) (nI k) (nI k) := by
  have a6 : a / 16 < 6 := by have := ha.1; omega
  have b6 : b / 16 < 6 := by have := hb.1; omega
  have la := hT.2 (a / 16)
  have lb := hT.2 (b / 16)
  have sa := ez_szB hT a
  have sb := ez_szB hT b
  have z0 : ∀ k, (ez_sz le a - k = 0 ∨ ez_sz le b - k = 0) → post (nI (k + ez_lc (ez_w tx (ez_at a + k) (ez_sz le a - k)) (ez_w tx (ez_at b + k) (ez_sz le b - k)))) → post (nI k) := by
    intro k hk h
    have l := ez_lxw tx True (ez_sz le a - k) (ez_sz le b - k) (ez_at a + k) (ez_at b + k)
    have l1 := l.1
    have l2 := l.2.1
    have e : ez_lc (ez_w tx (ez_at a + k) (ez_sz le a - k)) (ez_w tx (ez_at b + k) (ez_sz le b - k)) = 0 := by omega
    rw [e] at h
    exact h
  intro d
  induction d with
  | zero =>
    intro k hk h
    obtain rfl : k = 9 := by omega
    exact br_t (nI_le (a := 9) (b := 9) (by omega) (by omega)) (z0 9 (Or.inl (by omega)) h)
  | succ d ih =>
    intro k hk h
    have ha1 := ha.1
    have hb1 := hb.1
    refine br_f (nI_ge (a := k) (b := 9) (by omega) (by omega)) (And.intro (vp_in_nI a6 (by omega)) ?_)
    rw [nI_clamp (show a / 16 < 2 ^ 31 by omega), hl _ a6]
    refine pk_le (le (a / 16)) (a % 16 + k) (fun z => z0 k (Or.inl (by unfold ez_sz; omega)) h) (fun z => And.intro (vp_in_nI b6 (by omega)) ?_)
    rw [nI_clamp (show b / 16 < 2 ^ 31 by omega), hl _ b6]
    refine pk_le (le (b / 16)) (b % 16 + k) (fun y => z0 k (Or.inr (by unfold ez_sz; omega)) h) (fun y => br_t rfl ?_)
    have ka : k < ez_sz le a := by unfold ez_sz; omega
    have kb : k < ez_sz le b := by unfold ez_sz; omega
    have ia := ez_atsz hT ha.1 ha.2.2 ka
    have ib := ez_atsz hT hb.1 hb.2.2 kb
    have ea : nI (a / 16) * 9 + nI (a % 16 + k) = nI (ez_at a + k) := by
      show nI (a / 16) * nI 9 + nI (a % 16 + k) = _
      rw [pk_mul, nI_add]
      exact congrArg nI (by unfold ez_at; omega)
    have eb : nI (b / 16) * 9 + nI (b % 16 + k) = nI (ez_at b + k) := by
      show nI (b / 16) * nI 9 + nI (b % 16 + k) = _
      rw [pk_mul, nI_add]
      exact congrArg nI (by unfold ez_at; omega)
    have wa : aw (ez_at a + k) = nI (tx (ez_at a + k)) := by
      have q := hU.2 (a / 16) (a % 16 + k) a6 z
      rw [← Nat.add_assoc] at q
      exact q
    have wb : aw (ez_at b + k) = nI (tx (ez_at b + k)) := by
      have q := hU.2 (b / 16) (b % 16 + k) b6 y
      rw [← Nat.add_assoc] at q
      exact q
    rw [ea, eb, nI_clamp (show ez_at a + k < 2 ^ 31 by omega), nI_clamp (show ez_at b + k < 2 ^ 31 by omega), wa, wb]
    have t1 := hT.1 (ez_at a + k)
    have t2 := hT.1 (ez_at b + k)
    obtain ⟨p, hp⟩ : ∃ p, ez_sz le a - k = p + 1 := ⟨ez_sz le a - k - 1, by omega⟩
    obtain ⟨q, hq⟩ : ∃ q, ez_sz le b - k = q + 1 := ⟨ez_sz le b - k - 1, by omega⟩
    rw [hp, hq] at h
    have W := ih (k + 1) (by omega)
    rw [show ez_sz le a - (k + 1) = p by omega, show ez_sz le b - (k + 1) = q by omega] at W
    refine And.intro (vp_in_nI (by omega) (by omega)) (And.intro (vp_in_nI (by omega) (by omega)) (pk_eq (tx (ez_at a + k)) (tx (ez_at b + k)) (fun w => nm_r (nI_1 k) (nm_r (nI_1 _) (nm_r (nI_1 _) (nm_r (nI_1 k) (W ?_))))) (fun w => nm_e (nm_e (nm_r (nI_1 k) (ez_Xcm0 a6 b6 (by omega) ?_ _ _ _))))))
    · have e : ez_lc (ez_w tx (ez_at a + k) (p + 1)) (ez_w tx (ez_at b + k) (q + 1)) = ez_lc (ez_w tx (ez_at a + k + 1) p) (ez_w tx (ez_at b + k + 1) q) + 1 := ez_lcs w _ _
      rw [e] at h
      rw [show k + 1 + ez_lc (ez_w tx (ez_at a + (k + 1)) p) (ez_w tx (ez_at b + (k + 1)) q) = k + (ez_lc (ez_w tx (ez_at a + k + 1) p) (ez_w tx (ez_at b + k + 1) q) + 1) from by rw [← Nat.add_assoc, ← Nat.add_assoc]; omega]
      exact h
    · have e : ez_lc (ez_w tx (ez_at a + k) (p + 1)) (ez_w tx (ez_at b + k) (q + 1)) = 0 := ez_lcn w _ _
      rw [e] at h
      exact h
theorem ez_XcommonAt (hT : ez_T tx le) (hl : ∀ s, s < 6 → al s = nI (le s)) (hU : ez_UF tx le aw an) {a b r : Nat} (ha : ez_En le a) (hb : ez_En le b)
    (hra : ez_rk (ez_B tx le) (ez_En le) a = r) (hrb : ez_rk (ez_B tx le) (ez_En le) b = r + 1) (h : post (nI (ez_f tx le a b))) : wpX_commonAt post (fd, fs, fp, fl, fh, ad, ar, al, ap, aq, aw, an) (nI r) := by
  have s60 := ez_size hT
  have rb := ez_rklt (ez_BLO tx le) (S := ez_En le) hb.1 hb
  have ha1 := ha.1
  have hb1 := hb.1
  have na := hU.1 a ha
  have nb := hU.1 b hb
  rw [hra] at na
  rw [hrb] at nb
  refine And.intro (vp_in_nI (by omega) (by omega)) ?_
  rw [nI_1, nI_clamp (show r < 2 ^ 31 by omega), nI_clamp (show r + 1 < 2 ^ 31 by omega), na, nb, ez_sh4 (show a < 2 ^ 31 by omega), ez_sh4 (show b < 2 ^ 31 by omega), ez_an15 (show a < 2 ^ 31 by omega), ez_an15 (show b < 2 ^ 31 by omega)]
  refine nm_e (And.intro (vp_in_nI (by omega) (by omega)) (nm_e (And.intro (vp_in_nI (by omega) (by omega)) (nm_e (And.intro (vp_in_nI (by omega) (by omega)) (nm_e (Exists.intro 11 ?_)))))))
  exact ez_Xcm50 hT hl hU ha hb 9 0 rfl (by rw [Nat.zero_add]; exact h)
end
end
section
/-! common; known, sums -/
section
variable {gs : Int32} {bp : Nat → Int32} {tx le : Nat → Nat} {post : Int32 → Prop}
theorem ez_YcommonN (hT : ez_T tx le) {r : Int32} (hr : ∀ e, ez_En le e → nI (ez_rk (ez_B tx le) (ez_En le) e) ≠ r) (h : post (-4)) : wpY_common post (gs, ez_n tx, ez_n le, bp) r := by
  unfold wpY_common
  dsimp only
  refine ez_Yending hT (fun e he q => absurd q (hr e he)) (fun _ => br_c (fun _ => br_t (by decide) h) (fun _ => ez_Yending hT (fun e he q => br_t (by decide) h) (fun _ => br_t (by decide) h)))
theorem ez_YcommonL (hT : ez_T tx le) {r : Nat} (hr : r + 1 = ez_c (ez_En le) 96) (h : post (-4)) : wpY_common post (gs, ez_n tx, ez_n le, bp) (nI r) := by
  have s60 := ez_size hT
  have hB := ez_BLO tx le
  unfold wpY_common
  dsimp only
  obtain ⟨e, he, hS, hre⟩ := ez_surj hB (S := ez_En le) (r := r) (by omega)
  refine ez_Yending hT (fun e' he' q => ?_) (fun q => absurd (by rw [hre]) (q e hS))
  have h96 := he'.1
  refine br_f (nI_ge (b := 1000) (by omega) (by omega)) ?_
  rw [nI_1]
  refine ez_Yending hT (fun e2 he2 q2 => ?_) (fun _ => br_f (nI_pos (by omega)) (br_f (by decide) h))
  exfalso
  have rl := ez_rklt hB (S := ez_En le) he2.1 he2
  rw [nI_eq (by omega) (by omega)] at q2
  omega
theorem ez_YcommonS (hT : ez_T tx le) {a b r : Nat} (ha : ez_En le a) (hb : ez_En le b) (hra : ez_rk (ez_B tx le) (ez_En le) a = r) (hrb : ez_rk (ez_B tx le) (ez_En le) b = r + 1)
    (h : post (nI (ez_f tx le a b))) : wpY_common post (gs, ez_n tx, ez_n le, bp) (nI r) := by
  have s60 := ez_size hT
  have hB := ez_BLO tx le
  have rb := ez_rklt hB (S := ez_En le) hb.1 hb
  have ha1 := ha.1
  have hb1 := hb.1
  unfold wpY_common
  dsimp only
  refine ez_Yending hT (fun e he q => ?_) (fun q => absurd (by rw [hra]) (q a ha))
  have rl := ez_rklt hB (S := ez_En le) he.1 he
  rw [nI_eq (by omega) (by omega)] at q
  obtain rfl : e = a := ez_rkinj hB he.1 he ha.1 ha (q.trans hra.symm)
  refine br_f (nI_ge (b := 1000) (by omega) (by omega)) ?_
  rw [nI_1]
  refine ez_Yending hT (fun e2 he2 q2 => ?_) (fun q2 => absurd (by rw [hrb]) (q2 b hb))
  have rl2 := ez_rklt hB (S := ez_En le) he2.1 he2
  rw [nI_eq (by omega) (by omega)] at q2
  obtain rfl : e2 = b := ez_rkinj hB he2.1 he2 hb.1 hb (q2.trans hrb.symm)
  exact br_f (nI_pos (by omega)) (br_t (nI_pos' (by omega)) (ez_Yshared hT ha hb h))
theorem ez_fB (hT : ez_T tx le) (a b : Nat) : ez_f tx le a b ≤ 9 := Nat.le_trans (ez_lxw tx True (ez_sz le a) (ez_sz le b) (ez_at a) (ez_at b)).1 (ez_szB hT a)
theorem ez_MB (hT : ez_T tx le) (x : Nat) : ∀ l, ez_M (ez_f tx le) l x ≤ 9
  | [] => Nat.zero_le _
  | o :: l => by
    show max _ _ ≤ 9
    have a := ez_fB hT o x
    have b := ez_MB hT x l
    omega
theorem ez_KB (hT : ez_T tx le) : ∀ l, ez_K (ez_f tx le) l ≤ 9
  | [] => Nat.zero_le _
  | x :: l => by
    show max _ _ ≤ 9
    have a := ez_MB hT x l
    have b := ez_KB hT l
    omega
theorem ez_Ykn4 (hT : ez_T tx le) {x : Nat} (hx : ez_En le x) (h : post (nI (ez_M (ez_f tx le) (ez_ds (ez_En le) x) x))) :
    ∀ d i, i + d = x → wY_known_4 post (nI x) gs (ez_n tx) (ez_n le) bp (d + 1) (nI (ez_M (ez_f tx le) (ez_ds (ez_En le) i) x)) (nI i) := by
  have x96 := hx.1
  intro d
  induction d with
  | zero =>
    intro i hi
    obtain rfl : i = x := by omega
    exact br_t (nI_le (Nat.le_refl i) (by omega)) h
  | succ d ih =>
    intro i hi
    have W := ih (i + 1) (by omega)
    have b1 := ez_fB hT i x
    have b2 := ez_MB hT x (ez_ds (ez_En le) i)
    refine br_f (nI_ge (by omega) (by omega)) (ez_YisE hT (by omega) (fun q => br_f (by decide) (ez_Yshared hT q hx (pk_le (ez_f tx le i x) (ez_M (ez_f tx le) (ez_ds (ez_En le) i) x) (fun z => nm_r (nI_1 i) ?_) (fun z => nm_r (nI_1 i) ?_)))) (fun q => br_t rfl (nm_r (nI_1 i) ?_)))
    · rw [ez_dst q] at W
      have e : ez_M (ez_f tx le) (i :: ez_ds (ez_En le) i) x = ez_M (ez_f tx le) (ez_ds (ez_En le) i) x := by
        show max _ _ = _
        omega
      rw [e] at W; exact W
    · rw [ez_dst q] at W
      have e : ez_M (ez_f tx le) (i :: ez_ds (ez_En le) i) x = ez_f tx le i x := by
        show max _ _ = _
        omega
      rw [e] at W; exact W
    · rw [ez_dsn q] at W; exact W
theorem ez_Ykn (hT : ez_T tx le) {x : Nat} (hx : ez_En le x) (h : post (nI (ez_M (ez_f tx le) (ez_ds (ez_En le) x) x))) : wpY_known post (gs, ez_n tx, ez_n le, bp) (nI x) :=
  Exists.intro (x + 1) (ez_Ykn4 hT hx h x 0 (by omega))
def ez_su (g : Nat → Nat) : List Nat → Nat
  | [] => 0
  | x :: l => g x + ez_su g l
theorem ez_Ydi4 (hT : ez_T tx le) (h : post (nI (ez_su (ez_sz le) (ez_ds (ez_En le) 96)) - nI (ez_H (ez_f tx le) (ez_ds (ez_En le) 96)))) :
    ∀ d i, i + d = 96 → wY_distinct_4 post gs (ez_n tx) (ez_n le) bp (d + 1) (nI (ez_su (ez_sz le) (ez_ds (ez_En le) i)) - nI (ez_H (ez_f tx le) (ez_ds (ez_En le) i))) (nI i) := by
  intro d
  induction d with
  | zero =>
    intro i hi
    obtain rfl : i = 96 := by omega
    exact br_t (nI_le (a := 96) (b := 96) (by omega) (by omega)) h
  | succ d ih =>
    intro i hi
    have W := ih (i + 1) (by omega)
    refine br_f (nI_ge (a := i) (b := 96) (by omega) (by omega)) (ez_YisE hT (by omega) (fun q => br_f (by decide) (ez_Ysz (by omega) q.2.2 (ez_Ykn hT q (nm_e (nm_r (nI_1 i) ?_))))) (fun q => br_t rfl (nm_r (nI_1 i) ?_)))
    · rw [ez_dst q] at W
      have e : nI (ez_su (ez_sz le) (i :: ez_ds (ez_En le) i)) - nI (ez_H (ez_f tx le) (i :: ez_ds (ez_En le) i)) = nI (ez_su (ez_sz le) (ez_ds (ez_En le) i)) - nI (ez_H (ez_f tx le) (ez_ds (ez_En le) i)) + nI (ez_sz le i) - nI (ez_M (ez_f tx le) (ez_ds (ez_En le) i) i) := by
        show nI (ez_sz le i + ez_su (ez_sz le) (ez_ds (ez_En le) i)) - nI (ez_M (ez_f tx le) (ez_ds (ez_En le) i) i + ez_H (ez_f tx le) (ez_ds (ez_En le) i)) = _
        rw [← nI_add, ← nI_add]
        grind
      rw [e] at W; exact W
    · rw [ez_dsn q] at W; exact W
theorem ez_Ydi (hT : ez_T tx le) (h : post (nI (ez_su (ez_sz le) (ez_ds (ez_En le) 96)) - nI (ez_H (ez_f tx le) (ez_ds (ez_En le) 96)))) : wpY_distinct post (gs, ez_n tx, ez_n le, bp) := by
  have W := ez_Ydi4 (gs := gs) (bp := bp) hT h 96 0 rfl
  have z : nI (ez_su (ez_sz le) (ez_ds (ez_En le) 0)) - nI (ez_H (ez_f tx le) (ez_ds (ez_En le) 0)) = 0 := Int32.sub_zero _
  rw [z] at W
  exact Exists.intro 97 W
theorem ez_Yre4 (hT : ez_T tx le) (h : post (nI (ez_K (ez_f tx le) (ez_ds (ez_En le) 96)))) :
    ∀ d i, i + d = 96 → wY_repeated_4 post gs (ez_n tx) (ez_n le) bp (d + 1) (nI (ez_K (ez_f tx le) (ez_ds (ez_En le) i))) (nI i) := by
  intro d
  induction d with
  | zero =>
    intro i hi
    obtain rfl : i = 96 := by omega
    exact br_t (nI_le (a := 96) (b := 96) (by omega) (by omega)) h
  | succ d ih =>
    intro i hi
    have W := ih (i + 1) (by omega)
    have b1 := ez_MB hT i (ez_ds (ez_En le) i)
    have b2 := ez_KB hT (ez_ds (ez_En le) i)
    refine br_f (nI_ge (a := i) (b := 96) (by omega) (by omega)) (ez_YisE hT (by omega) (fun q => br_f (by decide) (ez_Ykn hT q (pk_le (ez_M (ez_f tx le) (ez_ds (ez_En le) i) i) (ez_K (ez_f tx le) (ez_ds (ez_En le) i)) (fun z => nm_r (nI_1 i) ?_) (fun z => nm_r (nI_1 i) ?_)))) (fun q => br_t rfl (nm_r (nI_1 i) ?_)))
    · rw [ez_dst q] at W
      have e : ez_K (ez_f tx le) (i :: ez_ds (ez_En le) i) = ez_K (ez_f tx le) (ez_ds (ez_En le) i) := by
        show max _ _ = _
        omega
      rw [e] at W; exact W
    · rw [ez_dst q] at W
      have e : ez_K (ez_f tx le) (i :: ez_ds (ez_En le) i) = ez_M (ez_f tx le) (ez_ds (ez_En le) i) i := by
        show max _ _ = _
        omega
      rw [e] at W; exact W
    · rw [ez_dsn q] at W; exact W
theorem ez_Yre (hT : ez_T tx le) (h : post (nI (ez_K (ez_f tx le) (ez_ds (ez_En le) 96)))) : wpY_repeated post (gs, ez_n tx, ez_n le, bp) :=
  Exists.intro 97 (ez_Yre4 hT h 96 0 rfl)
/-- the sum of all sizes -/
def ez_ss (g : Nat → Nat) : Nat → Nat
  | 0 => 0
  | i + 1 => ez_ss g i + g i
def ez_tri (le : Nat → Nat) : Nat → Nat
  | 0 => 0
  | i + 1 => ez_tri le i + le i * (le i + 1) / 2
theorem ez_ssp (g : Nat → Nat) (M : Nat) : ∀ N, ez_ss g (M + N) = ez_ss g M + ez_ss (fun i => g (M + i)) N
  | 0 => rfl
  | N + 1 => by
    show ez_ss g (M + N) + g (M + N) = ez_ss g M + (ez_ss (fun i => g (M + i)) N + g (M + N))
    rw [ez_ssp g M N, Nat.add_assoc]
theorem ez_ssc {g g' : Nat → Nat} : ∀ N, (∀ i, i < N → g i = g' i) → ez_ss g N = ez_ss g' N
  | 0, _ => rfl
  | N + 1, h => by
    show ez_ss g N + g N = ez_ss g' N + g' N
    rw [ez_ssc N (fun i hi => h i (by omega)), h N (by omega)]
theorem ez_ss16 : ∀ m, m < 10 → ez_ss (fun i => m - i) 16 = m * (m + 1) / 2 := by decide
theorem ez_sut (hT : ez_T tx le) : ∀ k, k ≤ 6 → ez_ss (ez_sz le) (16 * k) = ez_tri le k := by
  intro k
  induction k with
  | zero => intro _; rfl
  | succ k ih =>
    intro hk
    have l9 := hT.2 k
    rw [Nat.mul_succ, ez_ssp, ih (by omega)]
    show ez_tri le k + _ = ez_tri le k + le k * (le k + 1) / 2
    rw [← ez_ss16 (le k) (by omega)]
    refine congrArg (fun z => ez_tri le k + z) (ez_ssc 16 fun i hi => ?_)
    show le ((16 * k + i) / 16) - (16 * k + i) % 16 = le k - i
    rw [show (16 * k + i) / 16 = k by omega, show (16 * k + i) % 16 = i by omega]
theorem ez_sud : ∀ N, N ≤ 96 → ez_su (ez_sz le) (ez_ds (ez_En le) N) = ez_ss (ez_sz le) N
  | 0, _ => rfl
  | N + 1, h => by
    have ih := ez_sud N (by omega)
    show _ = ez_ss (ez_sz le) N + ez_sz le N
    by_cases z : ez_En le N
    · rw [ez_dst z]
      show ez_sz le N + ez_su (ez_sz le) (ez_ds (ez_En le) N) = _
      rw [ih, Nat.add_comm]
    · rw [ez_dsn z, ih]
      have e : ez_sz le N = 0 := by
        unfold ez_sz
        by_cases w : 0 < le (N / 16)
        · by_cases y : N % 16 ≤ le (N / 16)
          · exact absurd ⟨by omega, w, y⟩ z
          · omega
        · omega
      rw [e]
      rfl
theorem ez_sum (hT : ez_T tx le) : ez_su (ez_sz le) (ez_ds (ez_En le) 96) = ez_tri le 6 := (ez_sud 96 (Nat.le_refl _)).trans (ez_sut hT 6 (Nat.le_refl _))
end
theorem i_vc_common {k : Nat} {u : SX} {v : SY} (I : i_Rel k u v) (hk : k + 3 ≤ 1536) (v1 : Int32) : wpX_common (fun r u' => wpY_common (fun r' => r' = r ∧ i_Rel (k + 3) u' v) v v1) u v1 := by
  refine ez_el (P := fun u v => wpX_common (fun r u' => wpY_common (fun r' => r' = r ∧ i_Rel (k + 3) u' v) v v1) u v1) ?_ I
  intro fd fs fp fl fh ad ar al ap aq aw an gs bp tx le hT hd hX hdr
  have s60 := ez_size hT
  have hB := ez_BLO tx le
  have none : (∀ e, ez_En le e → nI (ez_rk (ez_B tx le) (ez_En le) e) ≠ v1) → wpY_common (fun r' => r' = -4 ∧ i_Rel (k + 3) (fd, fs, fp, fl, fh, ad, ar, al, ap, aq, aw, an) (gs, ez_n tx, ez_n le, bp)) (gs, ez_n tx, ez_n le, bp) v1 :=
    fun h => ez_YcommonN hT h ⟨rfl, ez_mk hT hd hX hdr⟩
  unfold wpX_common
  dsimp only
  by_cases h0 : v1 < 0
  · refine br_t h0 (none fun e he q => ?_)
    have rl := ez_rklt hB (S := ez_En le) he.1 he
    exact nI_pos (by omega) (q ▸ h0)
  · obtain ⟨r, hr, rfl⟩ := nI_of h0
    refine br_f h0 ?_
    rw [hX.1]
    rcases Nat.eq_zero_or_pos (ez_c (ez_En le) 96) with z | z
    · refine br_f ?_ ?_
      · rw [z]
        intro q
        exact absurd (Int32.lt_of_le_of_lt (nI_pos' hr) q) (by decide)
      · rw [← hX.1]
        refine none fun e he q => ?_
        have rl := ez_rklt hB (S := ez_En le) he.1 he
        omega
    · obtain ⟨n, hn⟩ : ∃ n, ez_c (ez_En le) 96 = n + 1 := ⟨ez_c (ez_En le) 96 - 1, by omega⟩
      rw [hn, nI_pred, ← hn, ← hX.1]
      refine pk_lt r n (fun w => ?_) (fun w => ?_)
      · obtain ⟨a, _, ha, hra⟩ := ez_surj hB (S := ez_En le) (r := r) (by omega)
        obtain ⟨b, _, hb, hrb⟩ := ez_surj hB (S := ez_En le) (r := r + 1) (by omega)
        refine ez_Xunpack hT hX (fun aw' an' hU => ?_)
        exact ez_XcommonAt hT hX.2.2.1 hU ha hb hra hrb (ez_YcommonS hT ha hb hra hrb ⟨rfl, ez_mk hT hd hX hdr⟩)
      · by_cases y : r = n
        · exact ez_YcommonL hT (by omega) ⟨rfl, ez_mk hT hd hX hdr⟩
        · refine none fun e he q => ?_
          have rl := ez_rklt hB (S := ez_En le) he.1 he
          rw [nI_eq (by omega) (by omega)] at q
          omega
section
variable {fd fs fp fl fh : Int32} {ad ar al ap aq aw an : Nat → Int32} {tx le : Nat → Nat} {postX : Int32 → SX → Prop} {e : Nat → Nat}
theorem ez_Xdi42 (hT : ez_T tx le) (hl : ∀ s, s < 6 → al s = nI (le s)) (hU : ez_UF tx le aw an) (he : ∀ r, r < ez_c (ez_En le) 96 → ez_En le (e r) ∧ ez_rk (ez_B tx le) (ez_En le) (e r) = r) {x : Int32}
    (h : postX (x - nI (ez_H (ez_f tx le) (ez_ls e (ez_c (ez_En le) 96)))) (fd, nI (ez_c (ez_En le) 96), fp, fl, fh, ad, ar, al, ap, aq, aw, an)) :
    ∀ d r, r + 1 + d = ez_c (ez_En le) 96 → wX_distinct_42 postX fd (nI (ez_c (ez_En le) 96)) fp fl fh ad ar al ap aq aw an (d + 1) (x - nI (ez_H (ez_f tx le) (ez_ls e (r + 1)))) (nI r) := by
  have s60 := ez_size hT
  intro d
  induction d with
  | zero =>
    intro r hr
    rw [← hr] at h
    refine br_t ?_ ?_
    · rw [nI_1]; exact nI_le (by omega) (by omega)
    · rw [← hr]; exact h
  | succ d ih =>
    intro r hr
    have W := ih (r + 1) (by omega)
    have h1 := he r (by omega)
    have h2 := he (r + 1) (by omega)
    refine br_f ?_ ?_
    · rw [nI_1]; exact nI_ge (by omega) (by omega)
    · refine ez_XcommonAt hT hl hU h1.1 h2.1 h1.2 h2.2 (nm_r (e' := x - nI (ez_H (ez_f tx le) (ez_ls e (r + 1 + 1)))) ?_ (nm_r (nI_1 r) W))
      show _ = x - nI (ez_M (ez_f tx le) (ez_ls e (r + 1)) (e (r + 1)) + ez_H (ez_f tx le) (ez_ls e (r + 1)))
      rw [ez_fls he (by omega), ← nI_add]
      grind
theorem ez_Xdi8 (hT : ez_T tx le) (hl : ∀ s, s < 6 → al s = nI (le s)) (h : ∃ n42, wX_distinct_42 postX fd fs fp fl fh ad ar al ap aq aw an n42 (nI (ez_tri le 6)) 0) :
    ∀ d i, i + d = 6 → wX_distinct_8 postX fd fs fp fl fh ad ar al ap aq aw an (d + 1) (nI (ez_tri le i)) (nI i) := by
  intro d
  induction d with
  | zero =>
    intro i hi
    obtain rfl : i = 6 := by omega
    exact br_t (nI_le (a := 6) (b := 6) (by omega) (by omega)) h
  | succ d ih =>
    intro i hi
    have W := ih (i + 1) (by omega)
    have l9 := hT.2 i
    have hm : le i * (le i + 1) ≤ 9 * 10 := Nat.mul_le_mul l9 (by omega)
    refine br_f (nI_ge (a := i) (b := 6) (by omega) (by omega)) (And.intro (vp_in_nI (by omega) (by omega)) (And.intro (vp_in_nI (by omega) (by omega)) (And.intro (by decide) ?_)))
    rw [nI_clamp (show i < 2 ^ 31 by omega), hl i (by omega)]
    refine nm_r (e' := nI (ez_tri le (i + 1))) ?_ (nm_r (nI_1 i) W)
    rw [nI_1, pk_mul]
    show nI (ez_tri le i) + nI (le i * (le i + 1)) / nI 2 = nI (ez_tri le i + le i * (le i + 1) / 2)
    rw [pk_div (by omega) (by omega) (by omega), nI_add]
theorem ez_Xre8 (hT : ez_T tx le) (hl : ∀ s, s < 6 → al s = nI (le s)) (hU : ez_UF tx le aw an) (he : ∀ r, r < ez_c (ez_En le) 96 → ez_En le (e r) ∧ ez_rk (ez_B tx le) (ez_En le) (e r) = r)
    (h : postX (nI (ez_K (ez_f tx le) (ez_ls e (ez_c (ez_En le) 96)))) (fd, nI (ez_c (ez_En le) 96), fp, fl, fh, ad, ar, al, ap, aq, aw, an)) :
    ∀ d r, r + 1 + d = ez_c (ez_En le) 96 → wX_repeated_8 postX fd (nI (ez_c (ez_En le) 96)) fp fl fh ad ar al ap aq aw an (d + 1) (nI (ez_K (ez_f tx le) (ez_ls e (r + 1)))) (nI r) := by
  have s60 := ez_size hT
  intro d
  induction d with
  | zero =>
    intro r hr
    rw [← hr] at h
    refine br_t ?_ ?_
    · rw [nI_1]; exact nI_le (by omega) (by omega)
    · rw [← hr]; exact h
  | succ d ih =>
    intro r hr
    have W := ih (r + 1) (by omega)
    have h1 := he r (by omega)
    have h2 := he (r + 1) (by omega)
    have b1 := ez_fB hT (e r) (e (r + 1))
    have b2 := ez_KB hT (ez_ls e (r + 1))
    have ek : ez_K (ez_f tx le) (ez_ls e (r + 1 + 1)) = max (ez_f tx le (e r) (e (r + 1))) (ez_K (ez_f tx le) (ez_ls e (r + 1))) := by
      show max (ez_M (ez_f tx le) (ez_ls e (r + 1)) (e (r + 1))) (ez_K (ez_f tx le) (ez_ls e (r + 1))) = _
      rw [ez_fls he (by omega)]
    refine br_f ?_ ?_
    · rw [nI_1]; exact nI_ge (by omega) (by omega)
    · refine ez_XcommonAt hT hl hU h1.1 h2.1 h1.2 h2.2 (pk_le (ez_f tx le (e r) (e (r + 1))) (ez_K (ez_f tx le) (ez_ls e (r + 1))) (fun z => nm_r (nI_1 r) ?_) (fun z => nm_r (nI_1 r) ?_))
      · rw [ek, show max (ez_f tx le (e r) (e (r + 1))) (ez_K (ez_f tx le) (ez_ls e (r + 1))) = ez_K (ez_f tx le) (ez_ls e (r + 1)) by omega] at W
        exact W
      · rw [ek, show max (ez_f tx le (e r) (e (r + 1))) (ez_K (ez_f tx le) (ez_ls e (r + 1))) = ez_f tx le (e r) (e (r + 1)) by omega] at W
        exact W
end
end
section
/-! distinct, repeated -/
theorem i_vc_distinct {k : Nat} {u : SX} {v : SY} (I : i_Rel k u v) (hk : k + 3 ≤ 1536) : wpX_distinct (fun r u' => wpY_distinct (fun r' => r' = r ∧ i_Rel (k + 3) u' v) v) u := by
  refine ez_el (P := fun u v => wpX_distinct (fun r u' => wpY_distinct (fun r' => r' = r ∧ i_Rel (k + 3) u' v) v) u) ?_ I
  intro fd fs fp fl fh ad ar al ap aq aw an gs bp tx le hT hd hX hdr
  unfold wpX_distinct
  dsimp only
  refine ez_Xunpack hT hX (fun aw' an' hU => Exists.intro 7 ?_)
  obtain ⟨e, he⟩ := ez_num tx le
  have s60 := ez_size hT
  have hX1 := hX.1
  refine ez_Xdi8 hT hX.2.2.1 ?_ 6 0 rfl
  have fin : wpY_distinct (fun r' => r' = nI (ez_tri le 6) - nI (ez_H (ez_f tx le) (ez_ls e (ez_c (ez_En le) 96))) ∧ i_Rel (k + 3) (fd, nI (ez_c (ez_En le) 96), fp, fl, fh, ad, ar, al, ap, aq, aw', an') (gs, ez_n tx, ez_n le, bp)) (gs, ez_n tx, ez_n le, bp) := by
    refine ez_Ydi hT ⟨?_, ez_mk hT hd (hX1 ▸ hX) hdr⟩
    rw [ez_sum hT, ez_Hp ez_fs ez_fu (ez_perm he)]
  rw [hX1]
  have z0 : nI (ez_tri le 6) - nI (ez_H (ez_f tx le) (ez_ls e (0 + 1))) = nI (ez_tri le 6) := Int32.sub_zero _
  rcases Nat.eq_zero_or_pos (ez_c (ez_En le) 96) with z | z
  · rw [z] at fin ⊢
    refine Exists.intro 1 (br_t (show nI 0 ≤ (0 : Int32) + 1 by decide) ?_)
    have z1 : nI (ez_tri le 6) - nI (ez_H (ez_f tx le) (ez_ls e 0)) = nI (ez_tri le 6) := Int32.sub_zero _
    rw [z1] at fin
    exact fin
  · have W := ez_Xdi42 (fd := fd) (fp := fp) (fl := fl) (fh := fh) (ad := ad) (ar := ar) (ap := ap) (aq := aq) hT hX.2.2.1 hU he (x := nI (ez_tri le 6)) (postX := fun r u' => wpY_distinct (fun r' => r' = r ∧ i_Rel (k + 3) u' (gs, ez_n tx, ez_n le, bp)) (gs, ez_n tx, ez_n le, bp)) fin (ez_c (ez_En le) 96 - 1) 0 (by omega)
    rw [z0] at W
    exact Exists.intro _ W
theorem i_vc_repeated {k : Nat} {u : SX} {v : SY} (I : i_Rel k u v) (hk : k + 3 ≤ 1536) : wpX_repeated (fun r u' => wpY_repeated (fun r' => r' = r ∧ i_Rel (k + 3) u' v) v) u := by
  refine ez_el (P := fun u v => wpX_repeated (fun r u' => wpY_repeated (fun r' => r' = r ∧ i_Rel (k + 3) u' v) v) u) ?_ I
  intro fd fs fp fl fh ad ar al ap aq aw an gs bp tx le hT hd hX hdr
  unfold wpX_repeated
  dsimp only
  refine ez_Xunpack hT hX (fun aw' an' hU => ?_)
  obtain ⟨e, he⟩ := ez_num tx le
  have s60 := ez_size hT
  have hX1 := hX.1
  have fin : wpY_repeated (fun r' => r' = nI (ez_K (ez_f tx le) (ez_ls e (ez_c (ez_En le) 96))) ∧ i_Rel (k + 3) (fd, nI (ez_c (ez_En le) 96), fp, fl, fh, ad, ar, al, ap, aq, aw', an') (gs, ez_n tx, ez_n le, bp)) (gs, ez_n tx, ez_n le, bp) := by
    refine ez_Yre hT ⟨?_, ez_mk hT hd (hX1 ▸ hX) hdr⟩
    rw [ez_Kp ez_fs (ez_perm he)]
  rw [hX1]
  rcases Nat.eq_zero_or_pos (ez_c (ez_En le) 96) with z | z
  · rw [z] at fin ⊢
    exact Exists.intro 1 (br_t (show nI 0 ≤ (0 : Int32) + 1 by decide) fin)
  · have W := ez_Xre8 (fd := fd) (fp := fp) (fl := fl) (fh := fh) (ad := ad) (ar := ar) (ap := ap) (aq := aq) hT hX.2.2.1 hU he (postX := fun r u' => wpY_repeated (fun r' => r' = r ∧ i_Rel (k + 3) u' (gs, ez_n tx, ez_n le, bp)) (gs, ez_n tx, ez_n le, bp)) fin (ez_c (ez_En le) 96 - 1) 0 (by omega)
    exact Exists.intro _ W
end
