section
theorem pk_us {f : Nat → Int32} {k : Nat} {x : Int32} : upd f k x k = x := if_pos rfl
theorem pk_un {f : Nat → Int32} {k j : Nat} {x : Int32} (h : j ≠ k) : upd f k x j = f j := if_neg h
theorem pk_uLs {f : Nat → Int64} {k : Nat} {x : Int64} : vp_updL f k x k = x := if_pos rfl
theorem pk_uLn {f : Nat → Int64} {k j : Nat} {x : Int64} (h : j ≠ k) : vp_updL f k x j = f j := if_neg h
theorem pk_sub {a b : Nat} (h : b ≤ a) : nI a - nI b = nI (a - b) := by
  obtain ⟨c, rfl⟩ : ∃ c, a = c + b := ⟨a - b, by omega⟩
  rw [← nI_add, Int32.add_sub_cancel, Nat.add_sub_cancel]
theorem pk_m1 (n : Nat) : nI (n + 1) + (-1) = nI n := by
  rw [← nI_1, Int32.add_assoc, show (1 : Int32) + (-1) = 0 from rfl, Int32.add_zero]
theorem pk_mul (a b : Nat) : nI a * nI b = nI (a * b) := (Int32.ofNat_mul a b).symm
theorem pk_div {a d : Nat} (ha : a < 2 ^ 31) (h0 : 0 < d) (hd : d < 2 ^ 31) : nI a / nI d = nI (a / d) := by
  apply Int32.toInt_inj.mp
  rw [lg_idiv_nonneg (by rw [nI_toInt ha]; omega) (by rw [nI_toInt hd]; omega), nI_toInt ha, nI_toInt hd, nI_toInt (Nat.lt_of_le_of_lt (Nat.div_le_self a d) ha)]
  first | rfl | exact (Int.natCast_ediv _ _).symm
theorem pk_rem {a d : Nat} (ha : a < 2 ^ 31) (h0 : 0 < d) (hd : d < 2 ^ 31) : nI a - nI a / nI d * nI d = nI (a % d) := by
  rw [pk_div ha h0 hd, pk_mul, pk_sub (Nat.div_mul_le_self a d)]
  exact congrArg nI (by have := Nat.div_add_mod' a d; omega)
theorem pk_sub_toInt {a b : Nat} (ha : a < 2 ^ 30) (hb : b < 2 ^ 30) : (nI a - nI b).toInt = (a : Int) - b := by
  rw [Int32.toInt_sub, nI_toInt (by omega), nI_toInt (by omega)]
  exact Int.bmod_eq_of_le (by omega) (by omega)
theorem pk_sneg {a b : Nat} (hb : b < 2 ^ 30) (h : a < b) : nI a - nI b < 0 := by
  rw [Int32.lt_iff_toInt_lt, pk_sub_toInt (by omega) hb, show (0 : Int32).toInt = 0 from by decide]
  omega
theorem pk_ix (x : Int32) {n : Nat} (hn : n < 2 ^ 31) : x < 0 ∨ nI n ≤ x ∨ ∃ j : Nat, j < n ∧ x = nI j := by
  by_cases h : x < 0
  · exact Or.inl h
  · obtain ⟨j, hj, rfl⟩ := nI_of h
    by_cases h2 : j < n
    · exact Or.inr (Or.inr ⟨j, h2, rfl⟩)
    · exact Or.inr (Or.inl (nI_le (by omega) hj))
theorem pk_le {x y : Int32} {A B : Prop} (a b : Nat) (f : a ≤ b → A) (g : b < a → B) (hx : x = nI a := by rfl) (hy : y = nI b := by rfl) (ha : a < 2 ^ 31 := by omega) (hb : b < 2 ^ 31 := by omega) : (x ≤ y → A) ∧ (¬ x ≤ y → B) := by
  subst hx hy
  rw [nI_leI ha hb]
  exact ⟨f, fun z => g (by omega)⟩
theorem pk_lt {x y : Int32} {A B : Prop} (a b : Nat) (f : a < b → A) (g : b ≤ a → B) (hx : x = nI a := by rfl) (hy : y = nI b := by rfl) (ha : a < 2 ^ 31 := by omega) (hb : b < 2 ^ 31 := by omega) : (x < y → A) ∧ (¬ x < y → B) := by
  subst hx hy
  rw [nI_ltI ha hb]
  exact ⟨f, fun z => g (by omega)⟩
theorem pk_eq {x y : Int32} {A B : Prop} (a b : Nat) (f : a = b → A) (g : a ≠ b → B) (hx : x = nI a := by rfl) (hy : y = nI b := by rfl) (ha : a < 2 ^ 31 := by omega) (hb : b < 2 ^ 31 := by omega) : (x = y → A) ∧ (¬ x = y → B) := by
  subst hx hy
  rw [nI_eq ha hb]
  exact ⟨f, g⟩
theorem pk_in {x : Int32} (n N : Nat) (h : n < N) (hx : x = nI n := by rfl) (hN : N < 2 ^ 31 := by omega) : vp_in x N := by
  subst hx
  exact vp_in_nI h hN
theorem pk_cl {x : Int32} (n : Nat) (hx : x = nI n := by rfl) (h : n < 2 ^ 31 := by omega) : x.toNatClampNeg = n := by
  subst hx
  exact nI_clamp h
theorem pk_tn {n : Nat} (h : n < 2 ^ 32) : (nI n).toBitVec.toNat = n := Nat.mod_eq_of_lt h
theorem pk_and (x : Int32) {m : Int32} (k : Nat) (hm : m.toBitVec.toNat = 2 ^ k - 1) : x &&& m = nI (x.toBitVec.toNat % 2 ^ k) := by
  apply Int32.toBitVec_inj.mp
  apply BitVec.eq_of_toNat_eq
  rw [Int32.toBitVec_and, BitVec.toNat_and, hm, Nat.and_two_pow_sub_one_eq_mod]
  show _ = (BitVec.ofNat 32 _).toNat
  rw [BitVec.toNat_ofNat]
  exact (Nat.mod_eq_of_lt (Nat.lt_of_le_of_lt (Nat.mod_le _ _) x.toBitVec.isLt)).symm
theorem pk_andN {n : Nat} (h : n < 2 ^ 32) {m : Int32} (k : Nat) (hm : m.toBitVec.toNat = 2 ^ k - 1) : nI n &&& m = nI (n % 2 ^ k) := by
  rw [pk_and _ k hm, pk_tn h]
theorem pk_andE (x : Int32) {m : Int32} (k : Nat) (hm : m.toBitVec.toNat = 2 ^ k - 1) : ∃ j : Nat, j < 2 ^ k ∧ x &&& m = nI j := ⟨_, Nat.mod_lt _ (Nat.two_pow_pos k), pk_and x k hm⟩
theorem pk_andIn (x : Int32) {m : Int32} (k : Nat) (hm : m.toBitVec.toNat = 2 ^ k - 1) (hk : k ≤ 30) : vp_in (x &&& m) (2 ^ k) := by
  obtain ⟨j, hj, e⟩ := pk_andE x k hm
  rw [e]
  exact vp_in_nI hj (Nat.lt_of_le_of_lt (Nat.pow_le_pow_right (by decide) hk) (by decide))
theorem pk_shl (a s : Int32) (k : Nat) (hs : (s.toBitVec.smod 32).toNat = k) : (a <<< s).toBitVec.toNat = a.toBitVec.toNat * 2 ^ k % 2 ^ 32 := by
  show (a.toBitVec <<< (s.toBitVec.smod 32).toNat).toNat = _
  rw [hs, BitVec.toNat_shiftLeft, Nat.shiftLeft_eq]
theorem pk_shlN {n : Nat} (s : Int32) (k : Nat) (hs : (s.toBitVec.smod 32).toNat = k) (h : n * 2 ^ k < 2 ^ 32) : nI n <<< s = nI (n * 2 ^ k) := by
  apply Int32.toBitVec_inj.mp
  apply BitVec.eq_of_toNat_eq
  have hn : n < 2 ^ 32 := Nat.lt_of_le_of_lt (Nat.le_mul_of_pos_right n (Nat.two_pow_pos k)) h
  rw [pk_shl _ _ k hs, pk_tn hn, pk_tn h, Nat.mod_eq_of_lt h]
theorem pk_shr (a s : Int32) (k : Nat) (hs : (s.toBitVec.smod 32).toNat = k) : (a >>> s).toInt = a.toInt >>> k := by
  show (a.toBitVec.sshiftRight (s.toBitVec.smod 32).toNat).toInt = _
  rw [hs, BitVec.toInt_sshiftRight]
  rfl
theorem pk_shrN {n : Nat} (h : n < 2 ^ 31) (s : Int32) (k : Nat) (hs : (s.toBitVec.smod 32).toNat = k) : nI n >>> s = nI (n / 2 ^ k) := by
  apply Int32.toInt_inj.mp
  have h2 : n / 2 ^ k ≤ n := Nat.div_le_self _ _
  rw [pk_shr _ _ k hs, nI_toInt h, nI_toInt (by omega), Int.shiftRight_eq_div_pow]
  rfl
theorem pk_ushr (x s : Int32) (k : Nat) (hs : ((s.toUInt32 &&& Int32.toUInt32 31).toBitVec % 32).toNat = k) : (x.toUInt32 >>> (s.toUInt32 &&& Int32.toUInt32 31)).toInt32.toBitVec.toNat = x.toBitVec.toNat / 2 ^ k := by
  have e : (x.toUInt32 >>> (s.toUInt32 &&& Int32.toUInt32 31)).toInt32.toBitVec = x.toBitVec >>> k := by
    rw [← hs]
    exact UInt32.toBitVec_shiftRight _ _
  rw [e, BitVec.toNat_ushiftRight, Nat.shiftRight_eq_div_pow]
theorem pk_ushrN {n : Nat} (hn : n < 2 ^ 32) (s : Int32) (k : Nat) (hs : ((s.toUInt32 &&& Int32.toUInt32 31).toBitVec % 32).toNat = k) : ((nI n).toUInt32 >>> (s.toUInt32 &&& Int32.toUInt32 31)).toInt32 = nI (n / 2 ^ k) := by
  apply Int32.toBitVec_inj.mp
  apply BitVec.eq_of_toNat_eq
  rw [pk_ushr _ s k hs, pk_tn hn, pk_tn (Nat.lt_of_le_of_lt (Nat.div_le_self _ _) hn)]
theorem pk_loop {σ : Type} (W : Nat → Nat → σ → Prop) (I : Nat → σ → Prop) (e i0 : Nat) (s : σ) (hi : i0 ≤ e) (h0 : I i0 s) (hx : ∀ n s, I e s → W (n + 1) e s)
    (hs : ∀ n i s, i < e → I i s → (∀ s', I (i + 1) s' → W n (i + 1) s') → W (n + 1) i s) : ∃ n, W n i0 s :=
  ⟨e + 1, loop_i W I e hx hs (e + 1) i0 s hi (by omega) h0⟩
theorem pk_loopD {σ : Type} (W : Nat → Nat → σ → Prop) (I : Nat → σ → Prop) (hx : ∀ n s, I 0 s → W (n + 1) 0 s)
    (hs : ∀ n i s, I (i + 1) s → (∀ s', I i s' → W n i s') → W (n + 1) (i + 1) s) : ∀ (e : Nat) (s : σ), I e s → W (e + 1) e s := by
  intro e
  induction e with
  | zero => exact fun s h => hx 0 s h
  | succ e ih => exact fun s h => hs (e + 1) e s h (fun s' h' => ih s' h')
theorem pk_least (P : Nat → Prop) (h : ∃ k, P k) : ∃ k, P k ∧ ∀ j, j < k → ¬ P j := by
  obtain ⟨k, hk⟩ := h
  induction k using Nat.strongRecOn with
  | ind k ih =>
    by_cases e : ∃ j, j < k ∧ P j
    · obtain ⟨j, hj, pj⟩ := e
      exact ih j hj pj
    · exact ⟨k, hk, fun j hj pj => e ⟨j, hj, pj⟩⟩
def bt (x : Int32) (i : Nat) : Bool := x.toBitVec.getLsbD i
theorem b_ext {x y : Int32} (h : ∀ i, i < 32 → bt x i = bt y i) : x = y := Int32.toBitVec_inj.mp (BitVec.eq_of_getLsbD_eq (fun i hi => h i hi))
theorem b_or (x y : Int32) (i : Nat) : bt (x ||| y) i = (bt x i || bt y i) := by unfold bt; rw [Int32.toBitVec_or, BitVec.getLsbD_or]
theorem b_and (x y : Int32) (i : Nat) : bt (x &&& y) i = (bt x i && bt y i) := by unfold bt; rw [Int32.toBitVec_and, BitVec.getLsbD_and]
theorem b_xor (x y : Int32) (i : Nat) : bt (x ^^^ y) i = (bt x i ^^ bt y i) := by unfold bt; rw [Int32.toBitVec_xor, BitVec.getLsbD_xor]
theorem b_big {x : Int32} {i : Nat} (h : 32 ≤ i) : bt x i = false := BitVec.getLsbD_of_ge _ _ h
theorem b_m1 : ∀ i, i < 32 → bt (-1) i = true := by decide +kernel
theorem b_0 (i : Nat) : bt 0 i = false := BitVec.getLsbD_zero
theorem s_l : ∀ n, n < 32 → ((nI n &&& 31).toBitVec.smod 32).toNat = n := by decide +kernel
theorem s_u : ∀ n, n < 32 → (((nI n).toUInt32 &&& Int32.toUInt32 31).toBitVec % 32).toNat = n := by decide +kernel
theorem b_shl (n : Nat) (hn : n < 32) (x : Int32) {i : Nat} (hi : i < 32) : bt (x <<< (nI n &&& 31)) i = (decide (n ≤ i) && bt x (i - n)) := by
  unfold bt
  rw [Int32.toBitVec_shiftLeft]
  show (x.toBitVec <<< ((nI n &&& 31).toBitVec.smod 32).toNat).getLsbD i = _
  rw [s_l n hn, BitVec.getLsbD_shiftLeft]
  rcases Nat.lt_or_ge i n with h | h
  · simp [h, Nat.not_le.mpr h]
  · simp [hi, h, Nat.not_lt.mpr h]
theorem b_ushr (n : Nat) (hn : n < 32) (x : Int32) (i : Nat) : bt ((x.toUInt32 >>> ((nI n).toUInt32 &&& Int32.toUInt32 31)).toInt32) i = bt x (n + i) := by
  show (x.toUInt32 >>> ((nI n).toUInt32 &&& Int32.toUInt32 31)).toBitVec.getLsbD i = x.toUInt32.toBitVec.getLsbD (n + i)
  rw [UInt32.toBitVec_shiftRight]
  show (x.toUInt32.toBitVec >>> (((nI n).toUInt32 &&& Int32.toUInt32 31).toBitVec % 32).toNat).getLsbD i = _
  rw [s_u n hn, BitVec.getLsbD_ushiftRight]
theorem b_sshr (n : Nat) (hn : n < 32) (x : Int32) {i : Nat} (hi : i < 32) : bt (x >>> (nI n &&& 31)) i = if n + i < 32 then bt x (n + i) else bt x 31 := by
  unfold bt
  rw [Int32.toBitVec_shiftRight]
  show (x.toBitVec.sshiftRight ((nI n &&& 31).toBitVec.smod 32).toNat).getLsbD i = _
  rw [s_l n hn, BitVec.getLsbD_sshiftRight, BitVec.msb_eq_getLsbD_last]
  simp [hi]
noncomputable def b01 (P : Prop) : Nat := @ite Nat P (Classical.propDecidable P) 1 0
theorem b01_t {P : Prop} (h : P) : b01 P = 1 := by unfold b01; rw [if_pos h]
theorem b01_f {P : Prop} (h : ¬ P) : b01 P = 0 := by unfold b01; rw [if_neg h]
theorem b01_le (P : Prop) : b01 P ≤ 1 := by
  rcases Classical.em P with h | h
  · rw [b01_t h]; omega
  · rw [b01_f h]; omega
theorem b01_mono {P Q : Prop} (h : P → Q) : b01 P ≤ b01 Q := by
  rcases Classical.em P with hp | hp
  · rw [b01_t hp, b01_t (h hp)]; omega
  · rw [b01_f hp]; omega
noncomputable def cn (P : Nat → Prop) : Nat → Nat
  | 0 => 0
  | k + 1 => cn P k + b01 (P k)
theorem cn_mono {P Q : Nat → Prop} : ∀ {N : Nat}, (∀ k, k < N → P k → Q k) → cn P N ≤ cn Q N
  | 0, _ => Nat.le_refl _
  | N + 1, h => by
    have a := cn_mono (P := P) (Q := Q) (N := N) (fun k hk => h k (by omega))
    have b := b01_mono (h N (by omega))
    simp only [cn]; omega
theorem cn_lt {P Q : Nat → Prop} {a : Nat} (hp : ¬ P a) (hq : Q a) : ∀ {N : Nat}, (∀ k, k < N → P k → Q k) → a < N → cn P N < cn Q N
  | 0, _, h => by omega
  | N + 1, h, ha => by
    simp only [cn]
    rcases Nat.lt_or_ge a N with z | z
    · have x := cn_lt hp hq (N := N) (fun k hk => h k (by omega)) z
      have b := b01_mono (h N (by omega))
      omega
    · have e : a = N := by omega
      subst e
      have x := cn_mono (P := P) (Q := Q) (N := a) (fun k hk => h k (by omega))
      rw [b01_t hq, b01_f hp]; omega
theorem cn_le (P : Nat → Prop) : ∀ N, cn P N ≤ N
  | 0 => Nat.le_refl _
  | N + 1 => by have := cn_le P N; have := b01_le (P N); simp only [cn]; omega
theorem cn_eq {P Q : Nat → Prop} {N : Nat} (h : ∀ k, k < N → (P k ↔ Q k)) : cn P N = cn Q N :=
  Nat.le_antisymm (cn_mono fun k hk => (h k hk).mp) (cn_mono fun k hk => (h k hk).mpr)
theorem cn_add {P : Nat → Prop} {a : Nat} (hp : ¬ P a) : ∀ {N : Nat}, a < N → cn (fun k => P k ∨ k = a) N = cn P N + 1
  | 0, h => by omega
  | N + 1, h => by
    simp only [cn]
    rcases Nat.lt_or_ge a N with z | z
    · rw [cn_add hp z]
      have : b01 (P N ∨ N = a) = b01 (P N) := Nat.le_antisymm (b01_mono fun q => q.elim id (fun e => by omega)) (b01_mono Or.inl)
      omega
    · have e : a = N := by omega
      subst e
      rw [cn_eq (P := fun k => P k ∨ k = a) (Q := P) (fun k hk => ⟨fun q => q.elim id (fun e => by omega), Or.inl⟩), b01_t (Or.inr rfl), b01_f hp]
theorem cn_F : ∀ N, cn (fun _ => False) N = 0
  | 0 => rfl
  | N + 1 => by simp only [cn]; rw [cn_F N, b01_f id]
end
section
/-! ===== arrays of naturals, narrowing ===== -/
def kn_H (a : Nat → Int32) (f : Nat → Nat) (m : Nat) : Prop := ∀ i, a i = nI (f i) ∧ f i < m
def kn_B (a : Nat → Int32) : Prop := ∀ i, a i = 0 ∨ a i = 1
def kn_u (f : Nat → Nat) (k x : Nat) : Nat → Nat := fun j => if j = k then x else f j
theorem kn_us {f : Nat → Nat} {k x : Nat} : kn_u f k x k = x := if_pos rfl
theorem kn_un {f : Nat → Nat} {k x j : Nat} (h : j ≠ k) : kn_u f k x j = f j := if_neg h
theorem kn_at {a : Nat → Int32} {f : Nat → Nat} {m : Nat} (h : kn_H a f m) {x : Int32} (t : Nat) (hx : x = nI t := by rfl) (ht : t < 2 ^ 31 := by omega) : a x.toNatClampNeg = nI (f t) := by
  subst hx; rw [nI_clamp ht]; exact (h t).1
theorem kn_e {a : Nat → Int32} {f : Nat → Nat} {m : Nat} (h : kn_H a f m) (t : Nat) : a t = nI (f t) := (h t).1
theorem kn_l {a : Nat → Int32} {f : Nat → Nat} {m : Nat} (h : kn_H a f m) (t : Nat) : f t < m := (h t).2
theorem kn_upd {a : Nat → Int32} {f : Nat → Nat} {m k w : Nat} {v : Int32} (h : kn_H a f m) (hv : v = nI w) (hw : w < m) : kn_H (upd a k v) (kn_u f k w) m := by
  intro i
  by_cases e : i = k
  · subst e; rw [pk_us, kn_us]; exact ⟨hv, hw⟩
  · rw [pk_un e, kn_un e]; exact h i
theorem kn_0 {m : Nat} (hm : 0 < m) : kn_H (fun _ => 0) (fun _ => 0) m := fun _ => ⟨nI_0.symm, hm⟩
theorem kn_Bu {a : Nat → Int32} {k : Nat} {v : Int32} (h : kn_B a) (hv : v = 0 ∨ v = 1) : kn_B (upd a k v) := by
  intro i
  by_cases e : i = k
  · subst e; rw [pk_us]; exact hv
  · rw [pk_un e]; exact h i
theorem kn_B0 : kn_B (fun _ => 0) := fun _ => Or.inl rfl
theorem kn_byte {w : Nat} (h : w < 128) : (nI w).toInt8.toInt32 = nI w := lg_i2b_small (by rw [nI_toInt (by omega)]; omega) (by rw [nI_toInt (by omega)]; omega)
theorem kn_short {w : Nat} (h : w < 32768) : (nI w).toInt16.toInt32 = nI w := lg_i2s_small (by rw [nI_toInt (by omega)]; omega) (by rw [nI_toInt (by omega)]; omega)
theorem kn_vb {x : Int32} (w : Nat) (hx : x = nI w := by rfl) (h : w < 128 := by omega) : vp_nar .byte x = nI w := by
  subst hx; rw [vp_nar_byte]; exact kn_byte h
theorem kn_vb2 {x : Int32} (w : Nat) (hx : x = nI w := by rfl) (h : w < 128 := by omega) : vp_nar .byte x.toInt8.toInt32 = nI w := by
  subst hx; rw [kn_byte h, vp_nar_byte]; exact kn_byte h
theorem kn_vs {x : Int32} (w : Nat) (hx : x = nI w := by rfl) (h : w < 32768 := by omega) : vp_nar .short x = nI w := by
  subst hx; rw [vp_nar_short]; exact kn_short h
theorem kn_vs2 {x : Int32} (w : Nat) (hx : x = nI w := by rfl) (h : w < 32768 := by omega) : vp_nar .short x.toInt16.toInt32 = nI w := by
  subst hx; rw [kn_short h, vp_nar_short]; exact kn_short h
theorem kn_vm1 : vp_nar .byte (-1) = -1 := by rw [vp_nar_byte]; decide
theorem kn_v0 : vp_nar .boolean 0 = 0 := rfl
theorem kn_v1 : vp_nar .boolean 1 = 1 := rfl
theorem kn_nb {x : Int32} (h : x = 0 ∨ x = 1) : narrow .boolean (.int x) = .int x := by
  rcases h with h | h <;> subst h
  · exact narrow_b0
  · exact narrow_b1
theorem kn_10 : ¬ (1 : Int32) = 0 := by decide
theorem kn_uu {f : Nat → Int32} {k : Nat} {x y : Int32} : upd (upd f k x) k y = upd f k y := by
  funext j; by_cases e : j = k
  · subst e; rw [pk_us, pk_us]
  · rw [pk_un e, pk_un e, pk_un e]
theorem kn_uc {f : Nat → Int32} {k l : Nat} {x y : Int32} (h : k ≠ l) : upd (upd f k x) l y = upd (upd f l y) k x := by
  funext j
  by_cases e : j = l
  · subst e; rw [pk_us, pk_un (Ne.symm h), pk_us]
  · by_cases e2 : j = k
    · subst e2; rw [pk_un e, pk_us, pk_us]
    · rw [pk_un e, pk_un e2, pk_un e2, pk_un e]
theorem kn_ui {f : Nat → Int32} {k : Nat} {x : Int32} (h : f k = x) : upd f k x = f := by
  funext j; by_cases e : j = k
  · subst e; rw [pk_us]; exact h.symm
  · rw [pk_un e]
/-- a truth value as the machine gives it -/
def kn_b (b : Bool) : Int32 := if b = true then 1 else 0
theorem kn_b1 {b : Bool} (h : b = true) : kn_b b = 1 := if_pos h
theorem kn_b0 {b : Bool} (h : b = false) : kn_b b = 0 := if_neg (by rw [h]; decide)
theorem kn_bz (b : Bool) : kn_b b = 0 ↔ b = false := by cases b <;> decide
theorem kn_b01 (b : Bool) : kn_b b = 0 ∨ kn_b b = 1 := by cases b <;> decide
noncomputable def kn_p (P : Prop) : Bool := @decide P (Classical.propDecidable P)
theorem kn_pt {P : Prop} (h : P) : kn_p P = true := @decide_eq_true P (Classical.propDecidable P) h
theorem kn_pf {P : Prop} (h : ¬ P) : kn_p P = false := @decide_eq_false P (Classical.propDecidable P) h
theorem kn_pi {P : Prop} : kn_p P = true ↔ P := @decide_eq_true_iff P (Classical.propDecidable P)
theorem kn_m3 (t : Nat) : (3 : Int32) * nI t = nI (3 * t) := pk_mul 3 t
theorem kn_m4 (t : Nat) : (4 : Int32) * nI t = nI (4 * t) := pk_mul 4 t
theorem kn_m8 (t : Nat) : (8 : Int32) * nI t = nI (8 * t) := pk_mul 8 t
/-- the end of the range of inputs, outputs, transactions -/
theorem kn_e3 {a : Nat → Int32} {f : Nat → Nat} {m : Nat} (h : kn_H a f m) (t : Nat) (ht : t < 2 ^ 20 := by omega) : 3 * nI t + a (nI t).toNatClampNeg = nI (3 * t + f t) := by
  rw [kn_m3, kn_at h t, nI_add]
theorem kn_e4 {a : Nat → Int32} {f : Nat → Nat} {m : Nat} (h : kn_H a f m) (t : Nat) (ht : t < 2 ^ 20 := by omega) : 4 * nI t + a (nI t).toNatClampNeg = nI (4 * t + f t) := by
  rw [kn_m4, kn_at h t, nI_add]
theorem kn_e8 {a : Nat → Int32} {f : Nat → Nat} {m : Nat} (h : kn_H a f m) (t : Nat) (ht : t < 2 ^ 20 := by omega) : 8 * nI t + a (nI t).toNatClampNeg = nI (8 * t + f t) := by
  rw [kn_m8, kn_at h t, nI_add]
theorem kn_neg {x : Int32} (h : x = -1) : x < 0 := by subst h; decide
theorem kn_nneg {n : Nat} (h : n < 2 ^ 31 := by omega) : ¬ nI n < 0 := nI_pos h
theorem kn_m1n {n : Nat} (h : n < 2 ^ 31 := by omega) : ¬ nI n = -1 := fun e => nI_pos h (kn_neg e)
theorem kn_m1lt : (-1 : Int32) < 0 := by decide
theorem kn_m1le : ¬ (0 : Int32) ≤ -1 := by decide
end
section
/-! ===== scripts: the pure run ===== -/
def kf_need (o : Nat) : Nat := if o = 0 ∨ o = 10 ∨ o = 11 then 0 else if 3 ≤ o ∧ o ≤ 7 then 2 else 1
def kf_n (o n : Nat) : Nat := if o = 0 ∨ o = 1 ∨ o = 11 then n + 1 else if o = 3 ∨ o = 9 ∨ o = 10 then n else n - 1
def kf_hash (y : Int32) : Int32 :=
  if (0 : Int64) ≤ ((31 * y.toInt64) + 7) - ((31 * y.toInt64) + 7) / 1009 * 1009 then (((31 * y.toInt64) + 7) - ((31 * y.toInt64) + 7) / 1009 * 1009).toInt32
  else ((((31 * y.toInt64) + 7) - ((31 * y.toInt64) + 7) / 1009 * 1009) + 1009).toInt32
/-- what a token does: v its number (or the height), x the second, y the top -/
def kf_sw (o : Nat) (v x y : Int32) (n : Nat) (st : Nat → Int32) : Nat → Int32 :=
  if o = 0 ∨ o = 11 then upd st n v
  else if o = 1 then upd st n y
  else if o = 3 then upd (upd st (n - 2) y) (n - 1) x
  else if o = 4 then upd st (n - 2) (x + y)
  else if o = 5 then upd st (n - 2) (x * y)
  else if o = 6 then upd st (n - 2) (if x = y then 1 else 0)
  else if o = 7 then upd st (n - 2) (if y ≤ x then 0 else 1)
  else if o = 9 then upd st (n - 1) (kf_hash y)
  else st
def kf_st (o : Nat) (v : Int32) (n : Nat) (st : Nat → Int32) : Nat → Int32 := kf_sw o v (st (n - 2)) (st (n - 1)) n st
def kf_v (o : Nat) (v h : Int32) : Int32 := if o = 11 then h else v
def kf_k (o : Nat) (v : Int32) (n : Nat) (st : Nat → Int32) (k : Nat) : Nat := if o = 12 ∧ st (n - 1) = 0 then k + v.toNatClampNeg + 1 else k + 1
abbrev kf_bad (o : Nat) (v age : Int32) (n : Nat) (st : Nat → Int32) : Prop :=
  n < kf_need o ∨ 6 < kf_n o n ∨ (o = 8 ∧ st (n - 1) = 0) ∨ (o = 10 ∧ ¬ v ≤ age)
def kf_run (op : Nat → Nat) (nm : Nat → Int32) (e : Nat) (age h : Int32) : Nat → Nat → Nat → (Nat → Int32) → Bool
  | 0, _, _, _ => false
  | f + 1, k, n, st =>
    if e ≤ k then decide (0 < n ∧ ¬ st (n - 1) = 0)
    else if kf_bad (op k) (nm k) age n st then false
    else kf_run op nm e age h f (kf_k (op k) (nm k) n st k) (kf_n (op k) n) (kf_st (op k) (kf_v (op k) (nm k) h) n st)
theorem kf_run_e {op : Nat → Nat} {nm : Nat → Int32} {e : Nat} {age h : Int32} {f k n : Nat} {st : Nat → Int32} (he : e ≤ k) : kf_run op nm e age h (f + 1) k n st = decide (0 < n ∧ ¬ st (n - 1) = 0) := if_pos he
theorem kf_run_b {op : Nat → Nat} {nm : Nat → Int32} {e : Nat} {age h : Int32} {f k n : Nat} {st : Nat → Int32} (he : ¬ e ≤ k) (hb : kf_bad (op k) (nm k) age n st) : kf_run op nm e age h (f + 1) k n st = false := (if_neg he).trans (if_pos hb)
theorem kf_run_s {op : Nat → Nat} {nm : Nat → Int32} {e : Nat} {age h : Int32} {f k n : Nat} {st : Nat → Int32} (he : ¬ e ≤ k) (hb : ¬ kf_bad (op k) (nm k) age n st) : kf_run op nm e age h (f + 1) k n st = kf_run op nm e age h f (kf_k (op k) (nm k) n st k) (kf_n (op k) n) (kf_st (op k) (kf_v (op k) (nm k) h) n st) := (if_neg he).trans (if_neg hb)
theorem kf_u {st st' : Nat → Int32} {n m i : Nat} {x x' : Int32} (h : ∀ j, j < n → st j = st' j) (hx : x = x') (hm : ∀ j, j < m → j ≠ i → j < n) : ∀ j, j < m → upd st i x j = upd st' i x' j := by
  intro j hj
  by_cases e : j = i
  · subst e; rw [pk_us, pk_us]; exact hx
  · rw [pk_un e, pk_un e]; exact h j (hm j hj e)
theorem kf_st_cg {o n : Nat} {v v' : Int32} {st st' : Nat → Int32} (hn : ¬ n < kf_need o) (h : ∀ j, j < n → st j = st' j) (hv : o = 0 ∨ o = 11 → v = v') : ∀ j, j < kf_n o n → kf_st o v n st j = kf_st o v' n st' j := by
  have t1 : 1 ≤ n → st (n - 1) = st' (n - 1) := fun z => h _ (by omega)
  have t2 : 2 ≤ n → st (n - 2) = st' (n - 2) := fun z => h _ (by omega)
  unfold kf_need at hn
  intro j hj
  unfold kf_n at hj
  unfold kf_st kf_sw
  by_cases c0 : o = 0 ∨ o = 11
  · rw [if_pos c0, if_pos c0]
    rw [if_pos (by omega)] at hj
    exact kf_u h (hv c0) (fun j h1 h2 => by omega) j hj
  rw [if_neg c0, if_neg c0]
  by_cases c1 : o = 1
  · rw [if_pos c1, if_pos c1]
    rw [if_pos (by omega)] at hj
    rw [if_neg (by omega), if_neg (by omega)] at hn
    exact kf_u h (t1 (by omega)) (fun j h1 h2 => by omega) j hj
  rw [if_neg c1, if_neg c1]
  rw [if_neg (by omega)] at hj
  by_cases c3 : o = 3
  · rw [if_pos c3, if_pos c3]
    rw [if_neg (by omega), if_pos (by omega)] at hn
    rw [if_pos (by omega)] at hj
    exact kf_u (n := n) (kf_u h (t1 (by omega)) (fun j h1 h2 => h1)) (t2 (by omega)) (fun j h1 h2 => h1) j hj
  rw [if_neg c3, if_neg c3]
  by_cases c4 : o = 4
  · rw [if_pos c4, if_pos c4]
    rw [if_neg (by omega), if_pos (by omega)] at hn
    rw [if_neg (by omega)] at hj
    rw [t1 (by omega), t2 (by omega)]
    exact kf_u h rfl (fun j h1 h2 => by omega) j hj
  rw [if_neg c4, if_neg c4]
  by_cases c5 : o = 5
  · rw [if_pos c5, if_pos c5]
    rw [if_neg (by omega), if_pos (by omega)] at hn
    rw [if_neg (by omega)] at hj
    rw [t1 (by omega), t2 (by omega)]
    exact kf_u h rfl (fun j h1 h2 => by omega) j hj
  rw [if_neg c5, if_neg c5]
  by_cases c6 : o = 6
  · rw [if_pos c6, if_pos c6]
    rw [if_neg (by omega), if_pos (by omega)] at hn
    rw [if_neg (by omega)] at hj
    rw [t1 (by omega), t2 (by omega)]
    exact kf_u h rfl (fun j h1 h2 => by omega) j hj
  rw [if_neg c6, if_neg c6]
  by_cases c7 : o = 7
  · rw [if_pos c7, if_pos c7]
    rw [if_neg (by omega), if_pos (by omega)] at hn
    rw [if_neg (by omega)] at hj
    rw [t1 (by omega), t2 (by omega)]
    exact kf_u h rfl (fun j h1 h2 => by omega) j hj
  rw [if_neg c7, if_neg c7]
  by_cases c9 : o = 9
  · rw [if_pos c9, if_pos c9]
    rw [if_neg (by omega), if_neg (by omega)] at hn
    rw [if_pos (by omega)] at hj
    exact kf_u h (congrArg kf_hash (t1 (by omega))) (fun j h1 h2 => by omega) j hj
  rw [if_neg c9, if_neg c9]
  refine h j ?_
  split at hj <;> omega
theorem kf_cg {op op' : Nat → Nat} {nm nm' : Nat → Int32} {b0 e : Nat} {age age' h h' : Int32}
    (H : ∀ k, b0 ≤ k → k < e → op k = op' k ∧ nm k = nm' k ∧ (op k = 10 ∨ op k = 11 → age = age' ∧ h = h')) :
    ∀ f k n st st', b0 ≤ k → (∀ j, j < n → st j = st' j) → kf_run op nm e age h f k n st = kf_run op' nm' e age' h' f k n st' := by
  intro f
  induction f with
  | zero => intro k n st st' _ _; rfl
  | succ f ih =>
    intro k n st st' hk hs
    have t1 : 1 ≤ n → st (n - 1) = st' (n - 1) := fun z => hs _ (by omega)
    by_cases he : e ≤ k
    · rw [kf_run_e he, kf_run_e he]
      by_cases z : 0 < n
      · rw [t1 z]
      · rw [decide_eq_false (fun q => z q.1), decide_eq_false (fun q => z q.1)]
    · obtain ⟨e1, e2, e3⟩ := H k hk (by omega)
      by_cases hn : n < kf_need (op k)
      · rw [kf_run_b he (Or.inl hn), kf_run_b he (Or.inl (by rw [← e1]; exact hn))]
      · have bb : kf_bad (op k) (nm k) age n st ↔ kf_bad (op' k) (nm' k) age' n st' := by
          rw [← e1, ← e2]
          have q8 : op k = 8 → 1 ≤ n := by intro z; rw [z] at hn; exact Nat.not_lt.mp hn
          constructor
          · rintro (z | z | ⟨z, y⟩ | ⟨z, y⟩)
            · exact Or.inl z
            · exact Or.inr (Or.inl z)
            · exact Or.inr (Or.inr (Or.inl ⟨z, by rw [← t1 (q8 z)]; exact y⟩))
            · exact Or.inr (Or.inr (Or.inr ⟨z, by rw [← (e3 (Or.inl z)).1]; exact y⟩))
          · rintro (z | z | ⟨z, y⟩ | ⟨z, y⟩)
            · exact Or.inl z
            · exact Or.inr (Or.inl z)
            · exact Or.inr (Or.inr (Or.inl ⟨z, by rw [t1 (q8 z)]; exact y⟩))
            · exact Or.inr (Or.inr (Or.inr ⟨z, by rw [(e3 (Or.inl z)).1]; exact y⟩))
        by_cases hb : kf_bad (op k) (nm k) age n st
        · rw [kf_run_b he hb, kf_run_b he (bb.mp hb)]
        · rw [kf_run_s he hb, kf_run_s he (fun z => hb (bb.mpr z))]
          have ek : kf_k (op k) (nm k) n st k = kf_k (op' k) (nm' k) n st' k := by
            rw [← e1, ← e2]; unfold kf_k
            by_cases z : op k = 12
            · have : 1 ≤ n := by rw [z] at hn; exact Nat.not_lt.mp hn
              rw [t1 this]
            · rw [if_neg (fun q => z q.1), if_neg (fun q => z q.1)]
          rw [← ek, ← e1, ← e2]
          refine ih _ _ _ _ ?_ (kf_st_cg hn hs ?_)
          · unfold kf_k; split <;> omega
          · rintro (z | z)
            · unfold kf_v; rw [if_neg (by omega), if_neg (by omega)]
            · unfold kf_v; rw [if_pos z, if_pos z]; exact (e3 (Or.inr z)).2
def kf_s0 (a b : Int32) : Nat → Int32 := upd (upd (fun _ => 0) 0 a) 1 b
/-- whether script s opens for a, b -/
def kf_go (op : Nat → Nat) (nm : Nat → Int32) (tk : Nat → Nat) (s : Nat) (a b age h : Int32) : Bool := kf_run op nm (8 * s + tk s) age h 9 (8 * s) 2 (kf_s0 a b)
theorem kf_go_junk {op : Nat → Nat} {nm : Nat → Int32} {tk : Nat → Nat} {s : Nat} {a b age h : Int32} (st : Nat → Int32) : kf_run op nm (8 * s + tk s) age h 9 (8 * s) 2 (upd (upd st 0 a) 1 b) = kf_go op nm tk s a b age h := by
  refine kf_cg (b0 := 8 * s) (fun k _ _ => ⟨rfl, rfl, fun _ => ⟨rfl, rfl⟩⟩) 9 (8 * s) 2 _ _ (Nat.le_refl _) ?_
  intro j hj
  unfold kf_s0
  by_cases e1 : j = 1
  · subst e1; rw [pk_us, pk_us]
  · have e0 : j = 0 := by omega
    subst e0
    rw [pk_un e1, pk_us, pk_un e1, pk_us]
theorem kf_go_cg {op op' : Nat → Nat} {nm nm' : Nat → Int32} {tk tk' : Nat → Nat} {s : Nat} {a b age h age' h' : Int32} (ht : tk s = tk' s)
    (H : ∀ k, 8 * s ≤ k → k < 8 * s + tk s → op k = op' k ∧ nm k = nm' k ∧ (op k = 10 ∨ op k = 11 → age = age' ∧ h = h')) :
    kf_go op nm tk s a b age h = kf_go op' nm' tk' s a b age' h' := by
  unfold kf_go
  rw [← ht]
  exact kf_cg H 9 _ 2 _ _ (Nat.le_refl _) (fun _ _ => rfl)
theorem kf_need2 (o : Nat) : kf_need o ≤ 2 := by unfold kf_need; split <;> (try split) <;> omega
theorem kf_needn {o n : Nat} (h : ¬ n < kf_need o) (ho : o < 13) : (¬ (o = 0 ∨ o = 1 ∨ o = 11) ∧ ¬ (o = 3 ∨ o = 9 ∨ o = 10)) → 1 ≤ n := by
  unfold kf_need at h; intro z
  rw [if_neg (by omega)] at h
  split at h <;> omega
end
section
/-! ===== chains: the pure picture ===== -/
def kc_sg (ix : Nat → Nat) (g : Nat → Int32) : Nat → Nat → (Nat → Int32) → (Nat → Int32)
  | 0, _, f => f
  | m + 1, i, f => kc_sg ix g m (i + 1) (upd f (ix i) (g i))
theorem kc_sg_out {ix : Nat → Nat} {g : Nat → Int32} {c : Nat} : ∀ (m i : Nat) (f : Nat → Int32), (∀ j, i ≤ j → j < i + m → ix j ≠ c) → kc_sg ix g m i f c = f c
  | 0, _, _, _ => rfl
  | m + 1, i, f, h => by
    show kc_sg ix g m (i + 1) (upd f (ix i) (g i)) c = f c
    rw [kc_sg_out m (i + 1) _ (fun j h1 h2 => h j (by omega) (by omega)), pk_un (Ne.symm (h i (Nat.le_refl _) (by omega)))]
theorem kc_sg_in {ix : Nat → Nat} {v : Int32} {c : Nat} : ∀ (m i : Nat) (f : Nat → Int32), (∃ j, i ≤ j ∧ j < i + m ∧ ix j = c) → kc_sg ix (fun _ => v) m i f c = v
  | 0, i, f, h => by obtain ⟨j, h1, h2, _⟩ := h; omega
  | m + 1, i, f, h => by
    show kc_sg ix (fun _ => v) m (i + 1) (upd f (ix i) v) c = v
    by_cases z : ∃ j, i + 1 ≤ j ∧ j < i + 1 + m ∧ ix j = c
    · exact kc_sg_in m (i + 1) _ z
    · have e : ix i = c := by
        obtain ⟨j, h1, h2, h3⟩ := h
        by_cases q : j = i
        · rw [← q]; exact h3
        · exact absurd ⟨j, by omega, by omega, h3⟩ z
      rw [kc_sg_out m (i + 1) _ (fun j h1 h2 h3 => z ⟨j, h1, h2, h3⟩), e, pk_us]
theorem kc_sg_cp {g : Nat → Int32} {c : Nat} : ∀ (m i : Nat) (f : Nat → Int32), i ≤ c → c < i + m → kc_sg (fun j => j) g m i f c = g c
  | 0, i, f, h1, h2 => by omega
  | m + 1, i, f, h1, h2 => by
    show kc_sg (fun j => j) g m (i + 1) (upd f i (g i)) c = g c
    by_cases e : c = i
    · subst e
      rw [kc_sg_out m (c + 1) _ (fun j h1 h2 => by omega), pk_us]
    · exact kc_sg_cp m (i + 1) _ (by omega) (by omega)
theorem kc_sg_all {P : Nat → Int32 → Prop} {ix : Nat → Nat} {g : Nat → Int32} : ∀ (m i : Nat) (f : Nat → Int32), (∀ c, P c (f c)) → (∀ j, i ≤ j → j < i + m → P (ix j) (g j)) → ∀ c, P c (kc_sg ix g m i f c)
  | 0, _, _, h, _ => h
  | m + 1, i, f, h, hg => by
    refine kc_sg_all m (i + 1) _ ?_ (fun j h1 h2 => hg j (by omega) (by omega))
    intro c
    by_cases e : c = ix i
    · subst e; rw [pk_us]; exact hg i (Nat.le_refl _) (by omega)
    · rw [pk_un e]; exact h c
theorem kc_sg_un {ix : Nat → Nat} {g : Nat → Int32} {w : Int32} (m i : Nat) (f : Nat → Int32) (h : ∀ j, i ≤ j → j < i + m → f (ix j) = w) : kc_sg ix (fun _ => w) m i (kc_sg ix g m i f) = f := by
  funext c
  by_cases z : ∃ j, i ≤ j ∧ j < i + m ∧ ix j = c
  · rw [kc_sg_in m i _ z]; obtain ⟨j, h1, h2, rfl⟩ := z; exact (h j h1 h2).symm
  · rw [kc_sg_out m i _ (fun j h1 h2 h3 => z ⟨j, h1, h2, h3⟩), kc_sg_out m i _ (fun j h1 h2 h3 => z ⟨j, h1, h2, h3⟩)]
theorem kc_sg_uc {ix : Nat → Nat} {g : Nat → Int32} {c : Nat} {x : Int32} : ∀ (m i : Nat) (f : Nat → Int32), (∀ j, i ≤ j → j < i + m → ix j ≠ c) → kc_sg ix g m i (upd f c x) = upd (kc_sg ix g m i f) c x
  | 0, _, _, _ => rfl
  | m + 1, i, f, h => by
    show kc_sg ix g m (i + 1) (upd (upd f c x) (ix i) (g i)) = upd (kc_sg ix g m (i + 1) (upd f (ix i) (g i))) c x
    rw [kn_uc (Ne.symm (h i (Nat.le_refl _) (by omega))), kc_sg_uc m (i + 1) _ (fun j h1 h2 => h j (by omega) (by omega))]
theorem kc_sg_cg {ix ix' : Nat → Nat} {g g' : Nat → Int32} : ∀ (m i : Nat) (f : Nat → Int32), (∀ j, i ≤ j → j < i + m → ix j = ix' j ∧ g j = g' j) → kc_sg ix g m i f = kc_sg ix' g' m i f
  | 0, _, _, _ => rfl
  | m + 1, i, f, h => by
    show kc_sg ix g m (i + 1) (upd f (ix i) (g i)) = kc_sg ix' g' m (i + 1) (upd f (ix' i) (g' i))
    rw [(h i (Nat.le_refl _) (by omega)).1, (h i (Nat.le_refl _) (by omega)).2]
    exact kc_sg_cg m (i + 1) _ (fun j h1 h2 => h j (by omega) (by omega))
def kc_sum (g : Nat → Int32) : Nat → Nat → Int32 → Int32
  | 0, _, a => a
  | m + 1, i, a => kc_sum g m (i + 1) (a + g i)
def kc_sub (g : Nat → Int32) : Nat → Nat → Int32 → Int32
  | 0, _, a => a
  | m + 1, i, a => kc_sub g m (i + 1) (a - g i)
theorem kc_sum_cg {g g' : Nat → Int32} : ∀ (m i : Nat) (a : Int32), (∀ j, i ≤ j → j < i + m → g j = g' j) → kc_sum g m i a = kc_sum g' m i a
  | 0, _, _, _ => rfl
  | m + 1, i, a, h => by
    show kc_sum g m (i + 1) (a + g i) = kc_sum g' m (i + 1) (a + g' i)
    rw [h i (Nat.le_refl _) (by omega)]
    exact kc_sum_cg m (i + 1) _ (fun j h1 h2 => h j (by omega) (by omega))
theorem kc_sub_cg {g g' : Nat → Int32} : ∀ (m i : Nat) (a : Int32), (∀ j, i ≤ j → j < i + m → g j = g' j) → kc_sub g m i a = kc_sub g' m i a
  | 0, _, _, _ => rfl
  | m + 1, i, a, h => by
    show kc_sub g m (i + 1) (a - g i) = kc_sub g' m (i + 1) (a - g' i)
    rw [h i (Nat.le_refl _) (by omega)]
    exact kc_sub_cg m (i + 1) _ (fun j h1 h2 => h j (by omega) (by omega))
/-- from, spent, within, worth -/
abbrev kc_K : Type := (Nat → Int32) × (Nat → Int32) × (Nat → Int32) × (Nat → Int32)
section
variable (ic ni nu : Nat → Nat) (am : Nat → Int32) (fit : Nat → Int32 → Int32 → Bool)
def kc_fee (t : Nat) (w : Nat → Int32) : Int32 := kc_sub am (nu t) (3 * t) (kc_sum (fun i => w (ic i)) (ni t) (3 * t) 0)
def kc_ok1 (h : Nat) (fr sp : Nat → Int32) (i : Nat) : Prop := ¬ fr (ic i) < 0 ∧ sp (ic i) = 0 ∧ (ic i < 120 ∨ ¬ nI h - 2 < fr (ic i)) ∧ fit i (fr (ic i)) (nI h) = true
def kc_okI (t h : Nat) (fr sp : Nat → Int32) : Prop := ∀ i, 3 * t ≤ i → i < 3 * t + ni t → kc_ok1 ic fit h fr sp i
def kc_okT (t h : Nat) (K : kc_K) : Prop := K.2.2.1 t < 0 ∧ kc_okI ic ni fit t h K.1 K.2.1 ∧ 0 ≤ kc_fee ic ni nu am t K.2.2.2
def kc_doT (t h : Nat) (K : kc_K) : kc_K :=
  (kc_sg (fun j => j) (fun _ => nI h) (nu t) (3 * t) K.1, kc_sg ic (fun _ => 1) (ni t) (3 * t) K.2.1, upd K.2.2.1 t (nI h), kc_sg (fun j => j) am (nu t) (3 * t) K.2.2.2)
noncomputable def kc_tx1 (t h : Nat) (p : kc_K × Int32) : Option (kc_K × Int32) :=
  @ite _ (kc_okT ic ni nu am fit t h p.1) (Classical.propDecidable _) (some (kc_doT ic ni nu am t h p.1, p.2 + kc_fee ic ni nu am t p.1.2.2.2)) none
variable (nh hd : Nat → Nat)
noncomputable def kc_txs (b h : Nat) : Nat → kc_K → Option (kc_K × Int32)
  | 0, K => some (K, 0)
  | j + 1, K => (kc_txs b h j K).bind (kc_tx1 ic ni nu am fit (hd (4 * b + j)) h)
def kc_base (h : Nat) : Int32 := (64 : Int32) >>> ((nI h / 4) &&& 31)
def kc_fin (b h : Nat) (p : kc_K × Int32) : kc_K := (upd p.1.1 (120 + b) (nI h), p.1.2.1, p.1.2.2.1, upd p.1.2.2.2 (120 + b) (kc_base h + p.2))
noncomputable def kc_blk (b h : Nat) (K : kc_K) : Option kc_K := (kc_txs ic ni nu am fit hd b h (nh b) K).map (kc_fin b h)
def kc_K0 : kc_K := (fun c => if c < 152 then -1 else 0, fun _ => 0, fun t => if t < 40 then -1 else 0, fun _ => 0)
variable (pa he : Nat → Nat)
noncomputable def kc_Wf : Nat → Nat → Option kc_K
  | 0, b => kc_blk ic ni nu am fit nh hd b 0 kc_K0
  | f + 1, b => (kc_Wf f (pa b)).bind (kc_blk ic ni nu am fit nh hd b (f + 1))
noncomputable def kc_W (b : Nat) : Option kc_K := kc_Wf ic ni nu am fit nh hd pa (he b) b
def kc_nt : Nat → Nat → Nat
  | 0, b => nh b
  | f + 1, b => kc_nt f (pa b) + nh b
end
section
variable {ic ni nu : Nat → Nat} {am : Nat → Int32} {fit : Nat → Int32 → Int32 → Bool} {nh hd pa he : Nat → Nat}
theorem kc_tx1_t {t h : Nat} {p : kc_K × Int32} (z : kc_okT ic ni nu am fit t h p.1) : kc_tx1 ic ni nu am fit t h p = some (kc_doT ic ni nu am t h p.1, p.2 + kc_fee ic ni nu am t p.1.2.2.2) := if_pos z
theorem kc_tx1_f {t h : Nat} {p : kc_K × Int32} (z : ¬ kc_okT ic ni nu am fit t h p.1) : kc_tx1 ic ni nu am fit t h p = none := if_neg z
theorem kc_txs_s {b h j : Nat} {K : kc_K} {p : kc_K × Int32} (e : kc_txs ic ni nu am fit hd b h j K = some p) : kc_txs ic ni nu am fit hd b h (j + 1) K = kc_tx1 ic ni nu am fit (hd (4 * b + j)) h p := by
  show (kc_txs ic ni nu am fit hd b h j K).bind _ = _
  rw [e]; rfl
theorem kc_txs_n {b h j : Nat} {K : kc_K} (e : kc_txs ic ni nu am fit hd b h j K = none) : ∀ m, kc_txs ic ni nu am fit hd b h (j + m) K = none
  | 0 => e
  | m + 1 => by
    show (kc_txs ic ni nu am fit hd b h (j + m) K).bind _ = _
    rw [kc_txs_n e m]; rfl
theorem kc_txs_p {b h : Nat} {K : kc_K} : ∀ (m : Nat) (p : kc_K × Int32), kc_txs ic ni nu am fit hd b h m K = some p → ∀ j, j ≤ m → ∃ q, kc_txs ic ni nu am fit hd b h j K = some q
  | m, p, e, j, hj => by
    cases z : kc_txs ic ni nu am fit hd b h j K with
    | some q => exact ⟨q, rfl⟩
    | none =>
      have := kc_txs_n z (m - j)
      rw [show j + (m - j) = m by omega, e] at this
      exact nomatch this
/-- a step of a run that succeeds -/
theorem kc_txs_i {b h j : Nat} {K : kc_K} {q : kc_K × Int32} (e : kc_txs ic ni nu am fit hd b h (j + 1) K = some q) : ∃ p, kc_txs ic ni nu am fit hd b h j K = some p ∧ kc_okT ic ni nu am fit (hd (4 * b + j)) h p.1 ∧ q = (kc_doT ic ni nu am (hd (4 * b + j)) h p.1, p.2 + kc_fee ic ni nu am (hd (4 * b + j)) p.1.2.2.2) := by
  obtain ⟨p, ep⟩ := kc_txs_p _ _ e j (by omega)
  rw [kc_txs_s ep] at e
  refine ⟨p, ep, ?_⟩
  by_cases z : kc_okT ic ni nu am fit (hd (4 * b + j)) h p.1
  · rw [kc_tx1_t z] at e
    exact ⟨z, (Option.some.inj e).symm⟩
  · rw [kc_tx1_f z] at e
    exact nomatch e
theorem kc_W_0 {b : Nat} (e : he b = 0) : kc_W ic ni nu am fit nh hd pa he b = kc_blk ic ni nu am fit nh hd b 0 kc_K0 := by
  unfold kc_W; rw [e]; rfl
theorem kc_W_s {b : Nat} (e : he b = he (pa b) + 1) : kc_W ic ni nu am fit nh hd pa he b = (kc_W ic ni nu am fit nh hd pa he (pa b)).bind (kc_blk ic ni nu am fit nh hd b (he b)) := by
  show kc_Wf ic ni nu am fit nh hd pa (he b) b = (kc_Wf ic ni nu am fit nh hd pa (he (pa b)) (pa b)).bind _
  rw [e]; rfl
theorem kc_W_none {b : Nat} (e : he b = he (pa b) + 1) (z : kc_W ic ni nu am fit nh hd pa he (pa b) = none) : kc_W ic ni nu am fit nh hd pa he b = none := by
  rw [kc_W_s e, z]; rfl
theorem kc_W_some {b : Nat} {K : kc_K} (e : he b = he (pa b) + 1) (z : kc_W ic ni nu am fit nh hd pa he b = some K) : ∃ K', kc_W ic ni nu am fit nh hd pa he (pa b) = some K' ∧ kc_blk ic ni nu am fit nh hd b (he b) K' = some K := by
  cases w : kc_W ic ni nu am fit nh hd pa he (pa b) with
  | none => rw [kc_W_none e w] at z; exact nomatch z
  | some K' => rw [kc_W_s e, w] at z; exact ⟨K', rfl, z⟩
theorem kc_blk_some {b h : Nat} {K K' : kc_K} (e : kc_blk ic ni nu am fit nh hd b h K = some K') : ∃ p, kc_txs ic ni nu am fit hd b h (nh b) K = some p ∧ K' = kc_fin b h p := by
  unfold kc_blk at e
  cases z : kc_txs ic ni nu am fit hd b h (nh b) K with
  | none => rw [z] at e; exact nomatch e
  | some p => rw [z] at e; exact ⟨p, rfl, (Option.some.inj e).symm⟩
theorem kc_blk_t {b h : Nat} {K : kc_K} {p : kc_K × Int32} (e : kc_txs ic ni nu am fit hd b h (nh b) K = some p) : kc_blk ic ni nu am fit nh hd b h K = some (kc_fin b h p) := by
  unfold kc_blk; rw [e]; rfl
theorem kc_blk_f {b h j : Nat} {K : kc_K} (e : kc_txs ic ni nu am fit hd b h j K = none) (hj : j ≤ nh b) : kc_blk ic ni nu am fit nh hd b h K = none := by
  unfold kc_blk
  have := kc_txs_n e (nh b - j)
  rw [show j + (nh b - j) = nh b by omega] at this
  rw [this]; rfl
end
end
section
/-! ===== what holds of the states of a chain ===== -/
/-- the static facts of transactions and blocks that the pure part needs -/
def kc_D (ic ni nu hd : Nat → Nat) : Prop := (∀ i, ic i < 152) ∧ (∀ t, ni t < 4) ∧ (∀ t, nu t < 4) ∧ (∀ k, hd k < 40)
def kc_I (he : Nat → Nat) (h : Nat) (K : kc_K) : Prop :=
  (∀ c, c < 152 → K.1 c = -1 ∨ ∃ g, g ≤ h ∧ K.1 c = nI g) ∧
  (∀ t, t < 40 → K.2.2.1 t = -1 ∨ ∃ g, g ≤ h ∧ K.2.2.1 t = nI g) ∧
  (∀ c, c < 152 → K.1 c = -1 → K.2.1 c = 0) ∧
  (∀ c, K.2.1 c = 0 ∨ K.2.1 c = 1) ∧
  (∀ c, c < 120 → K.2.2.1 (c / 3) = -1 → K.1 c = -1) ∧
  (∀ b, b < 32 → K.1 (120 + b) = -1 ∨ he b ≤ h) ∧
  (∀ c, 152 ≤ c → K.1 c = 0 ∧ K.2.1 c = 0) ∧ (∀ t, 40 ≤ t → K.2.2.1 t = 0)
section
variable {ic ni nu : Nat → Nat} {am : Nat → Int32} {fit : Nat → Int32 → Int32 → Bool} {nh hd pa he : Nat → Nat}
theorem kc_neg {h : Nat} {x : Int32} (hh : h < 2 ^ 20) (z : x = -1 ∨ ∃ g, g ≤ h ∧ x = nI g) : x < 0 ↔ x = -1 := by
  constructor
  · intro y
    rcases z with z | ⟨g, hg, z⟩
    · exact z
    · rw [z] at y; exact absurd y (nI_pos (by omega))
  · exact kn_neg
theorem kc_fneg {h : Nat} {K : kc_K} (I : kc_I he h K) (hh : h < 2 ^ 20) {c : Nat} (hc : c < 152) : K.1 c < 0 ↔ K.1 c = -1 := kc_neg hh (I.1 c hc)
theorem kc_wneg {h : Nat} {K : kc_K} (I : kc_I he h K) (hh : h < 2 ^ 20) {t : Nat} (ht : t < 40) : K.2.2.1 t < 0 ↔ K.2.2.1 t = -1 := kc_neg hh (I.2.1 t ht)
theorem kc_I_up {h h' : Nat} {K : kc_K} (I : kc_I he h K) (hh : h ≤ h') : kc_I he h' K := by
  obtain ⟨i1, i2, i3, i4, i5, i6, i7⟩ := I
  refine ⟨fun c hc => ?_, fun t ht => ?_, i3, i4, i5, fun b hb => ?_, i7⟩
  · rcases i1 c hc with z | ⟨g, hg, z⟩
    · exact Or.inl z
    · exact Or.inr ⟨g, by omega, z⟩
  · rcases i2 t ht with z | ⟨g, hg, z⟩
    · exact Or.inl z
    · exact Or.inr ⟨g, by omega, z⟩
  · rcases i6 b hb with z | z
    · exact Or.inl z
    · exact Or.inr (by omega)
theorem kc_I_0 {h : Nat} : kc_I he h kc_K0 := by
  refine ⟨fun c hc => Or.inl (if_pos hc), fun t ht => Or.inl (if_pos ht), fun _ _ _ => rfl, fun _ => Or.inl rfl, fun c hc _ => if_pos (by omega), fun b hb => Or.inl (if_pos (by omega)), fun c hc => ⟨if_neg (by omega), rfl⟩, fun t ht => if_neg (by omega)⟩
theorem kc_doT_I {t h : Nat} {K : kc_K} (D : kc_D ic ni nu hd) (ht : t < 40) (hh : h < 2 ^ 20) (I : kc_I he h K) (O : kc_okT ic ni nu am fit t h K) : kc_I he h (kc_doT ic ni nu am t h K) := by
  obtain ⟨i1, i2, i3, i4, i5, i6, i7, i8⟩ := I
  have I : kc_I he h K := ⟨i1, i2, i3, i4, i5, i6, i7, i8⟩
  obtain ⟨d1, d2, d3, d4⟩ := D
  obtain ⟨o1, o2, o3⟩ := O
  have d2t := d2 t
  have d3t := d3 t
  -- what from becomes
  have F : ∀ c, (kc_doT ic ni nu am t h K).1 c = if 3 * t ≤ c ∧ c < 3 * t + nu t then nI h else K.1 c := by
    intro c
    show kc_sg (fun j => j) (fun _ => nI h) (nu t) (3 * t) K.1 c = _
    by_cases z : 3 * t ≤ c ∧ c < 3 * t + nu t
    · rw [if_pos z, kc_sg_in _ _ _ ⟨c, z.1, z.2, rfl⟩]
    · rw [if_neg z, kc_sg_out _ _ _ (fun j h1 h2 h3 => z (by subst h3; exact ⟨h1, h2⟩))]
  have S : ∀ c, ¬ K.1 c = -1 ∨ 152 ≤ c ∨ (kc_doT ic ni nu am t h K).2.1 c = K.2.1 c := by
    intro c
    by_cases z : ∃ j, 3 * t ≤ j ∧ j < 3 * t + ni t ∧ ic j = c
    · obtain ⟨j, h1, h2, rfl⟩ := z
      exact Or.inl (fun y => (o2 j h1 h2).1 (kn_neg y))
    · exact Or.inr (Or.inr (kc_sg_out _ _ _ (fun j h1 h2 h3 => z ⟨j, h1, h2, h3⟩)))
  refine ⟨fun c hc => ?_, fun u hu => ?_, fun c hc z => ?_, ?_, fun c hc z => ?_, fun b hb => ?_, fun c hc => ⟨?_, ?_⟩, fun u hu => ?_⟩
  · rw [F c]
    by_cases z : 3 * t ≤ c ∧ c < 3 * t + nu t
    · rw [if_pos z]; exact Or.inr ⟨h, Nat.le_refl _, rfl⟩
    · rw [if_neg z]; exact i1 c hc
  · show upd K.2.2.1 t (nI h) u = -1 ∨ ∃ g, g ≤ h ∧ upd K.2.2.1 t (nI h) u = nI g
    by_cases e : u = t
    · subst e; rw [pk_us]; exact Or.inr ⟨h, Nat.le_refl _, rfl⟩
    · rw [pk_un e]; exact i2 u hu
  · rw [F c] at z
    by_cases y : 3 * t ≤ c ∧ c < 3 * t + nu t
    · rw [if_pos y] at z; exact absurd z (kn_m1n (by omega))
    · rw [if_neg y] at z
      rcases S c with q | q | q
      · exact absurd z q
      · omega
      · rw [q]; exact i3 c hc z
  · exact kc_sg_all (P := fun _ x => x = 0 ∨ x = 1) _ _ _ i4 (fun _ _ _ => Or.inr rfl)
  · rw [F c]
    have z' : upd K.2.2.1 t (nI h) (c / 3) = -1 := z
    by_cases e : c / 3 = t
    · rw [e, pk_us] at z'; exact absurd z' (kn_m1n (by omega))
    · rw [pk_un e] at z'
      rw [if_neg (by omega)]
      exact i5 c hc z'
  · rw [F (120 + b), if_neg (by omega)]; exact i6 b hb
  · rw [F c, if_neg (by omega)]; exact (i7 c hc).1
  · have : (kc_doT ic ni nu am t h K).2.1 c = K.2.1 c := kc_sg_out _ _ _ (fun j h1 h2 h3 => by have := d1 j; omega)
    rw [this]; exact (i7 c hc).2
  · have e : u ≠ t := by omega
    show upd K.2.2.1 t (nI h) u = 0
    rw [pk_un e]; exact i8 u hu
theorem kc_txs_I {b h : Nat} {K : kc_K} (D : kc_D ic ni nu hd) (hh : h < 2 ^ 20) (I : kc_I he h K) : ∀ (j : Nat) (p : kc_K × Int32), kc_txs ic ni nu am fit hd b h j K = some p → kc_I he h p.1
  | 0, p, e => by
    have e' : some (K, (0 : Int32)) = some p := e
    rw [← Option.some.inj e']; exact I
  | j + 1, p, e => by
    obtain ⟨q, e1, e2, e3⟩ := kc_txs_i e
    rw [e3]
    exact kc_doT_I D (D.2.2.2 _) hh (kc_txs_I D hh I j q e1) e2
theorem kc_fin_I {b h : Nat} {p : kc_K × Int32} (hb : b < 32) (hh : h < 2 ^ 20) (e : he b ≤ h) (I : kc_I he h p.1) : kc_I he h (kc_fin b h p) := by
  obtain ⟨i1, i2, i3, i4, i5, i6, i7, i8⟩ := I
  have F : ∀ c, c ≠ 120 + b → (kc_fin b h p).1 c = p.1.1 c := fun c hc => pk_un hc
  have F' : (kc_fin b h p).1 (120 + b) = nI h := pk_us
  refine ⟨fun c hc => ?_, i2, fun c hc z => ?_, i4, fun c hc z => ?_, fun b' hb' => ?_, fun c hc => ⟨?_, (i7 c hc).2⟩, i8⟩
  · by_cases y : c = 120 + b
    · rw [y, F']; exact Or.inr ⟨h, Nat.le_refl _, rfl⟩
    · rw [F c y]; exact i1 c hc
  · by_cases y : c = 120 + b
    · rw [y, F'] at z; exact absurd z (kn_m1n (by omega))
    · rw [F c y] at z; exact i3 c hc z
  · rw [F c (by omega)]; exact i5 c hc z
  · by_cases y : b' = b
    · rw [y]; exact Or.inr e
    · rw [F (120 + b') (by omega)]; exact i6 b' hb'
  · rw [F c (by omega)]; exact (i7 c hc).1
theorem kc_blk_I {b h : Nat} {K K' : kc_K} (D : kc_D ic ni nu hd) (hb : b < 32) (hh : h < 2 ^ 20) (e : he b ≤ h) (I : kc_I he h K) (z : kc_blk ic ni nu am fit nh hd b h K = some K') : kc_I he h K' := by
  obtain ⟨p, e1, e2⟩ := kc_blk_some z
  rw [e2]
  exact kc_fin_I hb hh e (kc_txs_I D hh I _ _ e1)
/-- undoing -/
theorem kc_un_F {t h : Nat} {K : kc_K} (D : kc_D ic ni nu hd) (ht : t < 40) (hh : h < 2 ^ 20) (I : kc_I he h K) (O : kc_okT ic ni nu am fit t h K) : kc_sg (fun j => j) (fun _ => -1) (nu t) (3 * t) (kc_doT ic ni nu am t h K).1 = K.1 := by
  refine kc_sg_un _ _ _ (fun j h1 h2 => ?_)
  have := D.2.2.1 t
  refine I.2.2.2.2.1 j (by omega) ?_
  rw [show j / 3 = t by omega]
  exact (kc_wneg I hh ht).mp O.1
theorem kc_un_S {t h : Nat} {K : kc_K} (O : kc_okT ic ni nu am fit t h K) : kc_sg ic (fun _ => 0) (ni t) (3 * t) (kc_doT ic ni nu am t h K).2.1 = K.2.1 :=
  kc_sg_un _ _ _ (fun j h1 h2 => (O.2.1 j h1 h2).2.1)
theorem kc_un_W {t h : Nat} {K : kc_K} (ht : t < 40) (hh : h < 2 ^ 20) (I : kc_I he h K) (O : kc_okT ic ni nu am fit t h K) : upd (kc_doT ic ni nu am t h K).2.2.1 t (-1) = K.2.2.1 := by
  show upd (upd K.2.2.1 t (nI h)) t (-1) = K.2.2.1
  rw [kn_uu]
  exact kn_ui ((kc_wneg I hh ht).mp O.1)
/-- a value function that agrees with the worth of the coins that are there -/
def kc_A (K : kc_K) (w : Nat → Int32) : Prop := ∀ c, c < 152 → ¬ K.1 c < 0 → w c = K.2.2.2 c
theorem kc_A_fee {t h : Nat} {K : kc_K} {w : Nat → Int32} (D : kc_D ic ni nu hd) (A : kc_A K w) (O : kc_okI ic ni fit t h K.1 K.2.1) : kc_fee ic ni nu am t w = kc_fee ic ni nu am t K.2.2.2 := by
  unfold kc_fee
  rw [kc_sum_cg (g' := fun i => K.2.2.2 (ic i)) _ _ _ (fun j h1 h2 => A (ic j) (D.1 j) (O j h1 h2).1)]
/-- X's value function: amounts and rewards -/
def kc_av (am rw : Nat → Int32) (c : Nat) : Int32 := if c < 120 then am c else rw (c - 120)
theorem kc_A_doX {t h : Nat} {K : kc_K} {rw : Nat → Int32} (D : kc_D ic ni nu hd) (ht : t < 40) (A : kc_A K (kc_av am rw)) : kc_A (kc_doT ic ni nu am t h K) (kc_av am rw) := by
  intro c hc z
  have := D.2.2.1 t
  show kc_av am rw c = kc_sg (fun j => j) am (nu t) (3 * t) K.2.2.2 c
  by_cases y : 3 * t ≤ c ∧ c < 3 * t + nu t
  · rw [kc_sg_cp _ _ _ y.1 y.2]; unfold kc_av; rw [if_pos (by omega)]
  · rw [kc_sg_out _ _ _ (fun j h1 h2 h3 => y (by subst h3; exact ⟨h1, h2⟩))]
    refine A c hc (fun q => z ?_)
    have : (kc_doT ic ni nu am t h K).1 c = K.1 c := kc_sg_out _ _ _ (fun j h1 h2 h3 => y (by subst h3; exact ⟨h1, h2⟩))
    rw [this]; exact q
theorem kc_A_doY {t h : Nat} {K : kc_K} {w : Nat → Int32} (A : kc_A K w) : kc_A (kc_doT ic ni nu am t h K) (kc_sg (fun j => j) am (nu t) (3 * t) w) := by
  intro c hc z
  show _ = kc_sg (fun j => j) am (nu t) (3 * t) K.2.2.2 c
  by_cases y : 3 * t ≤ c ∧ c < 3 * t + nu t
  · rw [kc_sg_cp _ _ _ y.1 y.2, kc_sg_cp _ _ _ y.1 y.2]
  · rw [kc_sg_out _ _ _ (fun j h1 h2 h3 => y (by subst h3; exact ⟨h1, h2⟩)), kc_sg_out _ _ _ (fun j h1 h2 h3 => y (by subst h3; exact ⟨h1, h2⟩))]
    refine A c hc (fun q => z ?_)
    have : (kc_doT ic ni nu am t h K).1 c = K.1 c := kc_sg_out _ _ _ (fun j h1 h2 h3 => y (by subst h3; exact ⟨h1, h2⟩))
    rw [this]; exact q
theorem kc_A_finY {b h : Nat} {p : kc_K × Int32} {w : Nat → Int32} (A : kc_A p.1 w) : kc_A (kc_fin b h p) (upd w (120 + b) (kc_base h + p.2)) := by
  intro c hc z
  show _ = upd p.1.2.2.2 (120 + b) (kc_base h + p.2) c
  by_cases y : c = 120 + b
  · rw [y, pk_us, pk_us]
  · rw [pk_un y, pk_un y]
    refine A c hc (fun q => z ?_)
    show upd p.1.1 (120 + b) (nI h) c < 0
    rw [pk_un y]; exact q
theorem kc_A_finX {b h : Nat} {p : kc_K × Int32} {rw : Nat → Int32} (A : kc_A p.1 (kc_av am rw)) : kc_A (kc_fin b h p) (kc_av am (upd rw b (kc_base h + p.2))) := by
  intro c hc z
  show _ = upd p.1.2.2.2 (120 + b) (kc_base h + p.2) c
  by_cases y : c = 120 + b
  · rw [y, pk_us]; unfold kc_av; rw [if_neg (by omega), show 120 + b - 120 = b by omega, pk_us]
  · rw [pk_un y]
    have a : kc_av am rw c = p.1.2.2.2 c := by
      refine A c hc (fun q => z ?_)
      show upd p.1.1 (120 + b) (nI h) c < 0
      rw [pk_un y]; exact q
    rw [← a]
    unfold kc_av
    by_cases w : c < 120
    · rw [if_pos w, if_pos w]
    · rw [if_neg w, if_neg w, pk_un (by omega)]
/-- going back: what was there before is worth the same after -/
theorem kc_A_back {t h : Nat} {K : kc_K} {w : Nat → Int32} (D : kc_D ic ni nu hd) (ht : t < 40) (hh : h < 2 ^ 20) (I : kc_I he h K) (O : kc_okT ic ni nu am fit t h K) (A : kc_A (kc_doT ic ni nu am t h K) w) : kc_A K w := by
  intro c hc z
  have d := D.2.2.1 t
  have y : ¬ (3 * t ≤ c ∧ c < 3 * t + nu t) := by
    intro y
    refine z (kn_neg (I.2.2.2.2.1 c (by omega) ?_))
    rw [show c / 3 = t by omega]
    exact (kc_wneg I hh ht).mp O.1
  have e1 : (kc_doT ic ni nu am t h K).1 c = K.1 c := kc_sg_out _ _ _ (fun j h1 h2 h3 => y (by subst h3; exact ⟨h1, h2⟩))
  have e2 : (kc_doT ic ni nu am t h K).2.2.2 c = K.2.2.2 c := kc_sg_out _ _ _ (fun j h1 h2 h3 => y (by subst h3; exact ⟨h1, h2⟩))
  rw [← e2]
  exact A c hc (by rw [e1]; exact z)
theorem kc_txs_A_back {b h : Nat} {K : kc_K} {w : Nat → Int32} (D : kc_D ic ni nu hd) (hh : h < 2 ^ 20) (I : kc_I he h K) : ∀ (j : Nat) (p : kc_K × Int32), kc_txs ic ni nu am fit hd b h j K = some p → kc_A p.1 w → kc_A K w
  | 0, p, e, A => by
    have e' : some (K, (0 : Int32)) = some p := e
    rw [← Option.some.inj e'] at A; exact A
  | j + 1, p, e, A => by
    obtain ⟨q, e1, e2, e3⟩ := kc_txs_i e
    rw [e3] at A
    exact kc_txs_A_back D hh I j q e1 (kc_A_back D (D.2.2.2 _) hh (kc_txs_I D hh I j q e1) e2 A)
theorem kc_blk_A_back {b h : Nat} {K K' : kc_K} {w : Nat → Int32} (D : kc_D ic ni nu hd) (hb : b < 32) (hh : h < 2 ^ 20) (I : kc_I he h K) (n : K.1 (120 + b) = -1) (e : kc_blk ic ni nu am fit nh hd b h K = some K') (A : kc_A K' w) : kc_A K w := by
  obtain ⟨p, e1, e2⟩ := kc_blk_some e
  have np : ∀ (j : Nat) (p : kc_K × Int32), kc_txs ic ni nu am fit hd b h j K = some p → p.1.1 (120 + b) = -1 := by
    intro j
    induction j with
    | zero =>
      intro p e
      have e' : some (K, (0 : Int32)) = some p := e
      rw [← Option.some.inj e']; exact n
    | succ j ih =>
      intro p e
      obtain ⟨q, e1, e2, e3⟩ := kc_txs_i e
      rw [e3]
      have d := D.2.2.1 (hd (4 * b + j))
      have d4 := D.2.2.2 (4 * b + j)
      show kc_sg _ _ _ _ q.1.1 (120 + b) = -1
      rw [kc_sg_out _ _ _ (fun j h1 h2 => by omega)]
      exact ih q e1
  refine kc_txs_A_back D hh I _ p e1 ?_
  intro c hc z
  have y : c ≠ 120 + b := by intro y; rw [y, np _ _ e1] at z; exact z kn_m1lt
  have := A c hc (by rw [e2]; show ¬ upd p.1.1 (120 + b) (nI h) c < 0; rw [pk_un y]; exact z)
  rw [this, e2]
  show upd p.1.2.2.2 (120 + b) (kc_base h + p.2) c = p.1.2.2.2 c
  exact pk_un y
/-- the number of transactions -/
theorem kc_cnt_do {t h : Nat} {K : kc_K} (ht : t < 40) (hh : h < 2 ^ 20) (I : kc_I he h K) (O : kc_okT ic ni nu am fit t h K) : cn (fun u => ¬ (kc_doT ic ni nu am t h K).2.2.1 u = -1) 40 = cn (fun u => ¬ K.2.2.1 u = -1) 40 + 1 := by
  rw [← cn_add (a := t) (P := fun u => ¬ K.2.2.1 u = -1) (fun z => z ((kc_wneg I hh ht).mp O.1)) ht]
  refine cn_eq (fun u hu => ?_)
  show ¬ upd K.2.2.1 t (nI h) u = -1 ↔ _
  by_cases e : u = t
  · subst e; rw [pk_us]; exact ⟨fun _ => Or.inr rfl, fun _ => kn_m1n (by omega)⟩
  · rw [pk_un e]; exact ⟨Or.inl, fun z => z.elim id (fun q => absurd q e)⟩
theorem kc_cnt_txs {b h : Nat} {K : kc_K} (D : kc_D ic ni nu hd) (hh : h < 2 ^ 20) (I : kc_I he h K) : ∀ (j : Nat) (p : kc_K × Int32), kc_txs ic ni nu am fit hd b h j K = some p → cn (fun u => ¬ p.1.2.2.1 u = -1) 40 = cn (fun u => ¬ K.2.2.1 u = -1) 40 + j
  | 0, p, e => by
    have e' : some (K, (0 : Int32)) = some p := e
    rw [← Option.some.inj e']; rfl
  | j + 1, p, e => by
    obtain ⟨q, e1, e2, e3⟩ := kc_txs_i e
    rw [e3]
    show cn (fun u => ¬ (kc_doT ic ni nu am (hd (4 * b + j)) h q.1).2.2.1 u = -1) 40 = _
    rw [kc_cnt_do (D.2.2.2 _) hh (kc_txs_I D hh I j q e1) e2, kc_cnt_txs D hh I j q e1]
    omega
theorem kc_cnt_blk {b h : Nat} {K K' : kc_K} (D : kc_D ic ni nu hd) (hh : h < 2 ^ 20) (I : kc_I he h K) (e : kc_blk ic ni nu am fit nh hd b h K = some K') : cn (fun u => ¬ K'.2.2.1 u = -1) 40 = cn (fun u => ¬ K.2.2.1 u = -1) 40 + nh b := by
  obtain ⟨p, e1, e2⟩ := kc_blk_some e
  rw [e2]
  exact kc_cnt_txs D hh I _ p e1
/-- the tree of blocks -/
def kc_T (bk : Nat) (pa he : Nat → Nat) : Prop := 0 < bk ∧ bk ≤ 32 ∧ he 0 = 0 ∧ pa 0 = 0 ∧ ∀ b, 0 < b → b < bk → pa b < b ∧ he b = he (pa b) + 1
theorem kc_T_h {bk : Nat} {pa he : Nat → Nat} (T : kc_T bk pa he) : ∀ n b, b < n → b < bk → he b ≤ b := by
  intro n
  induction n with
  | zero => intro b h; omega
  | succ n ih =>
    intro b h hb
    by_cases e : b = 0
    · subst e; rw [T.2.2.1]; omega
    · obtain ⟨h1, h2⟩ := T.2.2.2.2 b (by omega) hb
      have := ih (pa b) (by omega) (by omega)
      omega
theorem kc_T_l {bk : Nat} {pa he : Nat → Nat} (T : kc_T bk pa he) {b : Nat} (hb : b < bk) : he b < 32 := by
  have := kc_T_h T (b + 1) b (by omega) hb
  have := T.2.1
  omega
theorem kc_T_p {bk : Nat} {pa he : Nat → Nat} (T : kc_T bk pa he) {b : Nat} (hb : b < bk) : pa b < bk := by
  by_cases e : b = 0
  · subst e; rw [T.2.2.2.1]; exact T.1
  · have := (T.2.2.2.2 b (by omega) hb).1; omega
theorem kc_T_0 {bk : Nat} {pa he : Nat → Nat} (T : kc_T bk pa he) {b : Nat} (hb : b < bk) : he b = 0 ↔ b = 0 := by
  constructor
  · intro z
    by_cases e : b = 0
    · exact e
    · have := (T.2.2.2.2 b (by omega) hb).2; omega
  · intro z; subst z; exact T.2.2.1
theorem kc_T_s {bk : Nat} {pa he : Nat → Nat} (T : kc_T bk pa he) {b : Nat} (hb : b < bk) (h : 0 < he b) : he b = he (pa b) + 1 := by
  refine (T.2.2.2.2 b ?_ hb).2
  by_cases e : b = 0
  · subst e; rw [T.2.2.1] at h; omega
  · omega
theorem kc_W_I {bk : Nat} (D : kc_D ic ni nu hd) (T : kc_T bk pa he) : ∀ n b K, he b < n → b < bk → kc_W ic ni nu am fit nh hd pa he b = some K → kc_I he (he b) K ∧ kc_nt nh pa (he b) b = cn (fun u => ¬ K.2.2.1 u = -1) 40 := by
  intro n
  induction n with
  | zero => intro b K h; omega
  | succ n ih =>
    intro b K h hb e
    have hl := kc_T_l T hb
    have b32 : b < 32 := by have := T.2.1; omega
    by_cases z : he b = 0
    · rw [kc_W_0 z] at e
      refine ⟨?_, ?_⟩
      · rw [z]; exact kc_blk_I D b32 (by omega) (by omega) kc_I_0 e
      · rw [z, kc_cnt_blk (he := he) D (by omega) kc_I_0 e]
        show nh b = _
        rw [cn_eq (Q := fun _ => False) (fun u hu => ⟨fun q => q (if_pos hu), False.elim⟩), cn_F]
        omega
    · have s := kc_T_s T hb (by omega)
      obtain ⟨K', e1, e2⟩ := kc_W_some s e
      obtain ⟨I', c'⟩ := ih (pa b) K' (by omega) (kc_T_p T hb) e1
      refine ⟨kc_blk_I D b32 (by omega) (Nat.le_refl _) (kc_I_up I' (by omega)) e2, ?_⟩
      rw [kc_cnt_blk D (by omega) (kc_I_up (h' := he b) I' (by omega)) e2, ← c', s]
      rfl
theorem kc_W_I' {bk : Nat} (D : kc_D ic ni nu hd) (T : kc_T bk pa he) {b : Nat} {K : kc_K} (hb : b < bk) (e : kc_W ic ni nu am fit nh hd pa he b = some K) : kc_I he (he b) K := (kc_W_I D T (he b + 1) b K (by omega) hb e).1
theorem kc_W_nt {bk : Nat} (D : kc_D ic ni nu hd) (T : kc_T bk pa he) {b : Nat} {K : kc_K} (hb : b < bk) (e : kc_W ic ni nu am fit nh hd pa he b = some K) : kc_nt nh pa (he b) b ≤ 40 := by
  rw [(kc_W_I D T (he b + 1) b K (by omega) hb e).2]; exact cn_le _ _
/-- the reward coin of a block is new there -/
theorem kc_W_new {bk : Nat} (D : kc_D ic ni nu hd) (T : kc_T bk pa he) {b : Nat} {K : kc_K} (hb : b < bk) (h0 : 0 < he b) (e : kc_W ic ni nu am fit nh hd pa he (pa b) = some K) : K.1 (120 + b) = -1 := by
  have I := kc_W_I' D T (kc_T_p T hb) e
  have s := kc_T_s T hb h0
  rcases I.2.2.2.2.2.1 b (by have := T.2.1; omega) with z | z
  · exact z
  · omega
end
end
section
/-! ===== the static data of both sides ===== -/
def kx_s (sc rs : Nat → Nat) (c : Nat) : Nat := if c < 120 then sc c else rs (c - 120)
def kf_fit (oP : Nat → Nat) (nm : Nat → Int32) (tk ic : Nat → Nat) (inA inB : Nat → Int32) (sc rs : Nat → Nat) (i : Nat) (g h : Int32) : Bool := kf_go oP nm tk (kx_s sc rs (ic i)) (inA i) (inB i) (h - g) h
/-- what both sides need of the naturals alone -/
def kd_N (oP tk ic ni nu sc rs nh hd pa he : Nat → Nat) (md bk : Nat) : Prop :=
  (∀ k, oP k < 13) ∧ (∀ k, tk k < 9) ∧ (∀ k, ic k < 152) ∧ (∀ k, ni k < 4) ∧ (∀ k, nu k < 4) ∧ (∀ k, sc k < 8) ∧ (∀ k, rs k < 8) ∧ (∀ k, nh k < 5) ∧ (∀ k, hd k < 40) ∧
  md ≤ 40 ∧ kc_T bk pa he ∧ (∀ b, b < bk → ∀ k, k < nh b → hd (4 * b + k) < md) ∧ nh 0 = 0 ∧
  (∀ t, t < md → ∀ i j, 3 * t ≤ i → i < 3 * t + ni t → 3 * t ≤ j → j < 3 * t + ni t → ic i = ic j → i = j)
theorem kd_D {oP tk ic ni nu sc rs nh hd pa he : Nat → Nat} {md bk : Nat} (N : kd_N oP tk ic ni nu sc rs nh hd pa he md bk) : kc_D ic ni nu hd := ⟨N.2.2.1, N.2.2.2.1, N.2.2.2.2.1, N.2.2.2.2.2.2.2.2.1⟩
theorem kd_T {oP tk ic ni nu sc rs nh hd pa he : Nat → Nat} {md bk : Nat} (N : kd_N oP tk ic ni nu sc rs nh hd pa he md bk) : kc_T bk pa he := N.2.2.2.2.2.2.2.2.2.2.1
theorem kd_md {oP tk ic ni nu sc rs nh hd pa he : Nat → Nat} {md bk : Nat} (N : kd_N oP tk ic ni nu sc rs nh hd pa he md bk) : md ≤ 40 := N.2.2.2.2.2.2.2.2.2.1
theorem kd_hd {oP tk ic ni nu sc rs nh hd pa he : Nat → Nat} {md bk : Nat} (N : kd_N oP tk ic ni nu sc rs nh hd pa he md bk) {b k : Nat} (hb : b < bk) (hk : k < nh b) : hd (4 * b + k) < md := N.2.2.2.2.2.2.2.2.2.2.2.1 b hb k hk
theorem kd_n0 {oP tk ic ni nu sc rs nh hd pa he : Nat → Nat} {md bk : Nat} (N : kd_N oP tk ic ni nu sc rs nh hd pa he md bk) : nh 0 = 0 := N.2.2.2.2.2.2.2.2.2.2.2.2.1
theorem kd_inj {oP tk ic ni nu sc rs nh hd pa he : Nat → Nat} {md bk : Nat} (N : kd_N oP tk ic ni nu sc rs nh hd pa he md bk) {t i j : Nat} (ht : t < md) (h1 : 3 * t ≤ i) (h2 : i < 3 * t + ni t) (h3 : 3 * t ≤ j) (h4 : j < 3 * t + ni t) (e : ic i = ic j) : i = j := N.2.2.2.2.2.2.2.2.2.2.2.2.2 t ht i j h1 h2 h3 h4 e
theorem kd_bk {oP tk ic ni nu sc rs nh hd pa he : Nat → Nat} {md bk : Nat} (N : kd_N oP tk ic ni nu sc rs nh hd pa he md bk) : bk ≤ 32 := (kd_T N).2.1
/-- X's arrays hold them -/
def kx_D (a_op a_number a_tokens a_timed a_inCoin a_ins a_outs a_script a_rewardScript a_holds a_held a_parent a_height : Nat → Int32) (oP tk ic ni nu sc rs nh hd pa he : Nat → Nat) : Prop :=
  kn_H a_op oP 13 ∧ (∀ k, oP k = 12 → ∃ w, w < 9 ∧ a_number k = nI w) ∧ kn_H a_tokens tk 9 ∧
  (∀ s, s < 8 → a_timed s = 0 → ∀ k, 8 * s ≤ k → k < 8 * s + tk s → oP k ≠ 10 ∧ oP k ≠ 11) ∧
  kn_H a_inCoin ic 152 ∧ kn_H a_ins ni 4 ∧ kn_H a_outs nu 4 ∧ kn_H a_script sc 8 ∧ kn_H a_rewardScript rs 8 ∧ kn_H a_holds nh 5 ∧ kn_H a_held hd 40 ∧ kn_H a_parent pa 32 ∧ kn_H a_height he 32
def ky_D (b_op b_arg b_length b_inCoin b_ins b_outs b_lock b_rewardLock b_many b_holds b_parent b_height : Nat → Int32) (oP tk ic ni nu sc rs nh hd pa he : Nat → Nat) : Prop :=
  kn_H b_op oP 13 ∧ (∀ k, oP k = 12 → ∃ w, w < 9 ∧ b_arg k = nI w) ∧ kn_H b_length tk 9 ∧
  kn_H b_inCoin ic 152 ∧ kn_H b_ins ni 4 ∧ kn_H b_outs nu 4 ∧ kn_H b_lock sc 8 ∧ kn_H b_rewardLock rs 8 ∧ kn_H b_many nh 5 ∧ kn_H b_holds hd 40 ∧ (b_parent 0 = -1 ∧ ∀ i, 0 < i → b_parent i = nI (pa i) ∧ pa i < 32) ∧ kn_H b_height he 32
section
variable {a_op a_number a_tokens a_timed a_inCoin a_ins a_outs a_script a_rewardScript a_holds a_held a_parent a_height : Nat → Int32} {oP tk ic ni nu sc rs nh hd pa he : Nat → Nat}
theorem dx_op (D : kx_D a_op a_number a_tokens a_timed a_inCoin a_ins a_outs a_script a_rewardScript a_holds a_held a_parent a_height oP tk ic ni nu sc rs nh hd pa he) : kn_H a_op oP 13 := D.1
theorem dx_sk (D : kx_D a_op a_number a_tokens a_timed a_inCoin a_ins a_outs a_script a_rewardScript a_holds a_held a_parent a_height oP tk ic ni nu sc rs nh hd pa he) : ∀ k, oP k = 12 → ∃ w, w < 9 ∧ a_number k = nI w := D.2.1
theorem dx_tk (D : kx_D a_op a_number a_tokens a_timed a_inCoin a_ins a_outs a_script a_rewardScript a_holds a_held a_parent a_height oP tk ic ni nu sc rs nh hd pa he) : kn_H a_tokens tk 9 := D.2.2.1
theorem dx_tm (D : kx_D a_op a_number a_tokens a_timed a_inCoin a_ins a_outs a_script a_rewardScript a_holds a_held a_parent a_height oP tk ic ni nu sc rs nh hd pa he) : ∀ s, s < 8 → a_timed s = 0 → ∀ k, 8 * s ≤ k → k < 8 * s + tk s → oP k ≠ 10 ∧ oP k ≠ 11 := D.2.2.2.1
theorem dx_ic (D : kx_D a_op a_number a_tokens a_timed a_inCoin a_ins a_outs a_script a_rewardScript a_holds a_held a_parent a_height oP tk ic ni nu sc rs nh hd pa he) : kn_H a_inCoin ic 152 := D.2.2.2.2.1
theorem dx_ni (D : kx_D a_op a_number a_tokens a_timed a_inCoin a_ins a_outs a_script a_rewardScript a_holds a_held a_parent a_height oP tk ic ni nu sc rs nh hd pa he) : kn_H a_ins ni 4 := D.2.2.2.2.2.1
theorem dx_nu (D : kx_D a_op a_number a_tokens a_timed a_inCoin a_ins a_outs a_script a_rewardScript a_holds a_held a_parent a_height oP tk ic ni nu sc rs nh hd pa he) : kn_H a_outs nu 4 := D.2.2.2.2.2.2.1
theorem dx_sc (D : kx_D a_op a_number a_tokens a_timed a_inCoin a_ins a_outs a_script a_rewardScript a_holds a_held a_parent a_height oP tk ic ni nu sc rs nh hd pa he) : kn_H a_script sc 8 := D.2.2.2.2.2.2.2.1
theorem dx_rs (D : kx_D a_op a_number a_tokens a_timed a_inCoin a_ins a_outs a_script a_rewardScript a_holds a_held a_parent a_height oP tk ic ni nu sc rs nh hd pa he) : kn_H a_rewardScript rs 8 := D.2.2.2.2.2.2.2.2.1
theorem dx_nh (D : kx_D a_op a_number a_tokens a_timed a_inCoin a_ins a_outs a_script a_rewardScript a_holds a_held a_parent a_height oP tk ic ni nu sc rs nh hd pa he) : kn_H a_holds nh 5 := D.2.2.2.2.2.2.2.2.2.1
theorem dx_hd (D : kx_D a_op a_number a_tokens a_timed a_inCoin a_ins a_outs a_script a_rewardScript a_holds a_held a_parent a_height oP tk ic ni nu sc rs nh hd pa he) : kn_H a_held hd 40 := D.2.2.2.2.2.2.2.2.2.2.1
theorem dx_pa (D : kx_D a_op a_number a_tokens a_timed a_inCoin a_ins a_outs a_script a_rewardScript a_holds a_held a_parent a_height oP tk ic ni nu sc rs nh hd pa he) : kn_H a_parent pa 32 := D.2.2.2.2.2.2.2.2.2.2.2.1
theorem dx_he (D : kx_D a_op a_number a_tokens a_timed a_inCoin a_ins a_outs a_script a_rewardScript a_holds a_held a_parent a_height oP tk ic ni nu sc rs nh hd pa he) : kn_H a_height he 32 := D.2.2.2.2.2.2.2.2.2.2.2.2
end
section
variable {b_op b_arg b_length b_inCoin b_ins b_outs b_lock b_rewardLock b_many b_holds b_parent b_height : Nat → Int32} {oP tk ic ni nu sc rs nh hd pa he : Nat → Nat}
theorem dy_op (D : ky_D b_op b_arg b_length b_inCoin b_ins b_outs b_lock b_rewardLock b_many b_holds b_parent b_height oP tk ic ni nu sc rs nh hd pa he) : kn_H b_op oP 13 := D.1
theorem dy_sk (D : ky_D b_op b_arg b_length b_inCoin b_ins b_outs b_lock b_rewardLock b_many b_holds b_parent b_height oP tk ic ni nu sc rs nh hd pa he) : ∀ k, oP k = 12 → ∃ w, w < 9 ∧ b_arg k = nI w := D.2.1
theorem dy_tk (D : ky_D b_op b_arg b_length b_inCoin b_ins b_outs b_lock b_rewardLock b_many b_holds b_parent b_height oP tk ic ni nu sc rs nh hd pa he) : kn_H b_length tk 9 := D.2.2.1
theorem dy_ic (D : ky_D b_op b_arg b_length b_inCoin b_ins b_outs b_lock b_rewardLock b_many b_holds b_parent b_height oP tk ic ni nu sc rs nh hd pa he) : kn_H b_inCoin ic 152 := D.2.2.2.1
theorem dy_ni (D : ky_D b_op b_arg b_length b_inCoin b_ins b_outs b_lock b_rewardLock b_many b_holds b_parent b_height oP tk ic ni nu sc rs nh hd pa he) : kn_H b_ins ni 4 := D.2.2.2.2.1
theorem dy_nu (D : ky_D b_op b_arg b_length b_inCoin b_ins b_outs b_lock b_rewardLock b_many b_holds b_parent b_height oP tk ic ni nu sc rs nh hd pa he) : kn_H b_outs nu 4 := D.2.2.2.2.2.1
theorem dy_sc (D : ky_D b_op b_arg b_length b_inCoin b_ins b_outs b_lock b_rewardLock b_many b_holds b_parent b_height oP tk ic ni nu sc rs nh hd pa he) : kn_H b_lock sc 8 := D.2.2.2.2.2.2.1
theorem dy_rs (D : ky_D b_op b_arg b_length b_inCoin b_ins b_outs b_lock b_rewardLock b_many b_holds b_parent b_height oP tk ic ni nu sc rs nh hd pa he) : kn_H b_rewardLock rs 8 := D.2.2.2.2.2.2.2.1
theorem dy_nh (D : ky_D b_op b_arg b_length b_inCoin b_ins b_outs b_lock b_rewardLock b_many b_holds b_parent b_height oP tk ic ni nu sc rs nh hd pa he) : kn_H b_many nh 5 := D.2.2.2.2.2.2.2.2.1
theorem dy_hd (D : ky_D b_op b_arg b_length b_inCoin b_ins b_outs b_lock b_rewardLock b_many b_holds b_parent b_height oP tk ic ni nu sc rs nh hd pa he) : kn_H b_holds hd 40 := D.2.2.2.2.2.2.2.2.2.1
theorem dy_p0 (D : ky_D b_op b_arg b_length b_inCoin b_ins b_outs b_lock b_rewardLock b_many b_holds b_parent b_height oP tk ic ni nu sc rs nh hd pa he) : b_parent 0 = -1 := D.2.2.2.2.2.2.2.2.2.2.1.1
theorem dy_pa (D : ky_D b_op b_arg b_length b_inCoin b_ins b_outs b_lock b_rewardLock b_many b_holds b_parent b_height oP tk ic ni nu sc rs nh hd pa he) {i : Nat} (h : 0 < i) : b_parent i = nI (pa i) := (D.2.2.2.2.2.2.2.2.2.2.1.2 i h).1
theorem dy_he (D : ky_D b_op b_arg b_length b_inCoin b_ins b_outs b_lock b_rewardLock b_many b_holds b_parent b_height oP tk ic ni nu sc rs nh hd pa he) : kn_H b_height he 32 := D.2.2.2.2.2.2.2.2.2.2.2
end
/-- the cache of X: where a script is not timed it holds the answer -/
def kf_C (md : Nat) (ni : Nat → Nat) (tm : Nat → Int32) (si : Nat → Nat) (fit : Nat → Int32 → Int32 → Bool) (fi : Nat → Int32) : Prop :=
  ∀ i, ((∀ t, t < md → ¬ (3 * t ≤ i ∧ i < 3 * t + ni t)) → fi i = 0) ∧ (tm (si i) = 0 → fi i = 0 ∨ (fi i = 1 ∧ ∀ g h, fit i g h = true) ∨ (fi i = 2 ∧ ∀ g h, fit i g h = false))
theorem kx_s8 {sc rs : Nat → Nat} (h1 : ∀ k, sc k < 8) (h2 : ∀ k, rs k < 8) (c : Nat) : kx_s sc rs c < 8 := by
  unfold kx_s; split
  · exact h1 _
  · exact h2 _
end
section
/-! ===== X: scripts ===== -/
def kf_gr (o : Nat) : Int32 := if o = 0 ∨ o = 1 ∨ o = 11 then 1 else if o = 3 ∨ o = 9 ∨ o = 10 then 0 else -1
theorem kn_s1 {n : Nat} (h : 1 ≤ n) : nI n - 1 = nI (n - 1) := pk_sub h
theorem kn_s2 {n : Nat} (h : 2 ≤ n) : nI n - 2 = nI (n - 2) := pk_sub h
theorem kn_ux {f : Nat → Int32} {x v : Int32} (j : Nat) (hx : x = nI j := by rfl) (hj : j < 2 ^ 31 := by omega) : upd f x.toNatClampNeg v = upd f j v := by
  subst hx; rw [nI_clamp hj]
theorem kn_uv {f : Nat → Int32} {x v v' : Int32} (j : Nat) (hv : v = v') (hx : x = nI j := by rfl) (hj : j < 2 ^ 31 := by omega) : upd f x.toNatClampNeg v = upd f j v' := by
  subst hx hv; rw [nI_clamp hj]
theorem kf_gr_n {o n : Nat} (ho : o < 13) (hn : ¬ n < kf_need o) : nI n + kf_gr o = nI (kf_n o n) := by
  have q := kf_needn hn ho
  unfold kf_gr kf_n
  by_cases c1 : o = 0 ∨ o = 1 ∨ o = 11
  · rw [if_pos c1, if_pos c1]; exact nI_1 n
  · rw [if_neg c1, if_neg c1]
    by_cases c2 : o = 3 ∨ o = 9 ∨ o = 10
    · rw [if_pos c2, if_pos c2]; exact Int32.add_zero _
    · rw [if_neg c2, if_neg c2]
      have := q ⟨c1, c2⟩
      obtain ⟨m, rfl⟩ : ∃ m, n = m + 1 := ⟨n - 1, by omega⟩
      exact pk_m1 m
theorem xx_needs {post : Int32 → Prop} {o : Nat} (ho : o < 13) (k : post (nI (kf_need o))) : wpX_needs post (nI o) := by
  have h20 : ¬ (o = 0 ∨ o = 10 ∨ o = 11) → wX_needs_20 post (nI o) := by
    intro c
    refine pk_le o 2 (fun h => ?_) (fun h => pk_le 8 o (fun h' => ?_) (fun h' => ?_))
    · have e : kf_need o = 1 := by unfold kf_need; rw [if_neg c, if_neg (by omega)]
      rw [e] at k; exact k
    · have e : kf_need o = 1 := by unfold kf_need; rw [if_neg c, if_neg (by omega)]
      rw [e] at k; exact k
    · have e : kf_need o = 2 := by unfold kf_need; rw [if_neg c, if_pos (by omega)]
      rw [e] at k; exact k
  have h0 : (o = 0 ∨ o = 10 ∨ o = 11) → post 0 := by
    intro c
    have e : kf_need o = 0 := by unfold kf_need; rw [if_pos c]
    rw [e] at k; exact k
  exact pk_eq o 0 (fun h => h0 (by omega)) (fun h => pk_le o 9 (fun h1 => h20 (by omega)) (fun h1 => pk_le 12 o (fun h2 => h20 (by omega)) (fun h2 => h0 (by omega))))
theorem xx_grows {post : Int32 → Prop} {o : Nat} (ho : o < 13) (k : post (kf_gr o)) : wpX_grows post (nI o) := by
  have h1 : (o = 0 ∨ o = 1 ∨ o = 11) → post 1 := by
    intro c
    have e : kf_gr o = 1 := if_pos c
    rw [e] at k; exact k
  have h0 : (o = 3 ∨ o = 9 ∨ o = 10) → post 0 := by
    intro c
    have e : kf_gr o = 0 := (if_neg (by omega)).trans (if_pos c)
    rw [e] at k; exact k
  have hm : ¬ (o = 0 ∨ o = 1 ∨ o = 11) → ¬ (o = 3 ∨ o = 9 ∨ o = 10) → post (-1) := by
    intro c d
    have e : kf_gr o = -1 := (if_neg c).trans (if_neg d)
    rw [e] at k; exact k
  exact pk_lt o 2 (fun h => h1 (by omega)) (fun h => pk_eq o 11 (fun h => h1 (by omega)) (fun h => pk_eq o 3 (fun h => h0 (by omega)) (fun h => pk_eq o 9 (fun h => h0 (by omega)) (fun h => pk_eq o 10 (fun h => h0 (by omega)) (fun h => hm (by omega) (by omega))))))
theorem kf_sw_xy {o n : Nat} {v x x' y y' : Int32} {st : Nat → Int32} (ho : o < 13) (hn : ¬ n < kf_need o) (hx : 2 ≤ n → x = x') (hy : 1 ≤ n → y = y') : kf_sw o v x y n st = kf_sw o v x' y' n st := by
  unfold kf_need at hn
  unfold kf_sw
  by_cases c0 : o = 0 ∨ o = 11
  · rw [if_pos c0, if_pos c0]
  rw [if_neg c0, if_neg c0]
  by_cases c1 : o = 1
  · rw [if_pos c1, if_pos c1]
    rw [if_neg (by omega), if_neg (by omega)] at hn
    rw [hy (by omega)]
  rw [if_neg c1, if_neg c1]
  by_cases c37 : 3 ≤ o ∧ o ≤ 7
  · rw [if_neg (by omega), if_pos c37] at hn
    rw [hx (by omega), hy (by omega)]
  rw [if_neg (show ¬ o = 3 by omega), if_neg (show ¬ o = 4 by omega), if_neg (show ¬ o = 5 by omega), if_neg (show ¬ o = 6 by omega), if_neg (show ¬ o = 7 by omega), if_neg (show ¬ o = 3 by omega), if_neg (show ¬ o = 4 by omega), if_neg (show ¬ o = 5 by omega), if_neg (show ¬ o = 6 by omega), if_neg (show ¬ o = 7 by omega)]
  by_cases c9 : o = 9
  · rw [if_pos c9, if_pos c9]
    rw [if_neg (by omega), if_neg (by omega)] at hn
    rw [hy (by omega)]
  rw [if_neg c9, if_neg c9]
section
variable {f_made f_blocks f_arrivals f_top f_many f_agains f_feeNow : Int32} {a_op a_number a_tokens a_used a_timed a_stack a_inCoin a_inA a_inB a_ins a_amount a_script a_outs a_fitting a_parent a_height a_work a_holds a_held a_rewardScript a_reward a_delivered a_arrival a_right a_wrong a_chain a_born a_spent a_since a_row a_fees a_taker a_again a_before : Nat → Int32}
theorem xx_act35 {post : SX → Prop} {o n : Nat} {v x y : Int32} (ho : o < 13) (hn : ¬ n < kf_need o) (h6 : kf_n o n ≤ 6) (n6 : n ≤ 6) (k : post (f_made, f_blocks, f_arrivals, f_top, f_many, f_agains, f_feeNow, a_op, a_number, a_tokens, a_used, a_timed, kf_sw o v x y n a_stack, a_inCoin, a_inA, a_inB, a_ins, a_amount, a_script, a_outs, a_fitting, a_parent, a_height, a_work, a_holds, a_held, a_rewardScript, a_reward, a_delivered, a_arrival, a_right, a_wrong, a_chain, a_born, a_spent, a_since, a_row, a_fees, a_taker, a_again, a_before)) : wX_act_35 post (nI o) v (nI n) x y f_made f_blocks f_arrivals f_top f_many f_agains f_feeNow a_op a_number a_tokens a_used a_timed a_stack a_inCoin a_inA a_inB a_ins a_amount a_script a_outs a_fitting a_parent a_height a_work a_holds a_held a_rewardScript a_reward a_delivered a_arrival a_right a_wrong a_chain a_born a_spent a_since a_row a_fees a_taker a_again a_before := by
  have w : o = 0 ∨ o = 1 ∨ o = 2 ∨ o = 3 ∨ o = 4 ∨ o = 5 ∨ o = 6 ∨ o = 7 ∨ o = 8 ∨ o = 9 ∨ o = 10 ∨ o = 11 ∨ o = 12 := by omega
  have n2 : kf_need o = 2 → 2 ≤ n := fun z => by omega
  have n1 : kf_need o = 1 → 1 ≤ n := fun z => by omega
  have m1 : kf_n o n = n + 1 → n < 6 := fun z => by omega
  clear hn h6 ho
  unfold wX_act_35
  rcases w with rfl | rfl | rfl | rfl | rfl | rfl | rfl | rfl | rfl | rfl | rfl | rfl | rfl
  all_goals (repeat (first | refine br_t (by decide) ?_ | refine br_f (by decide) ?_))
  · exact ⟨pk_in n 6 (m1 rfl), nm_r (kn_ux n) k⟩
  · exact ⟨pk_in n 6 (m1 rfl), nm_r (kn_ux n) k⟩
  · exact k
  · have h2 := n2 rfl
    exact ⟨pk_in (n - 2) 6 (by omega) (kn_s2 h2), nm_r (kn_ux (n - 2) (kn_s2 h2)) ⟨pk_in (n - 1) 6 (by omega) (kn_s1 (by omega)), nm_r (kn_ux (n - 1) (kn_s1 (by omega))) k⟩⟩
  · have h2 := n2 rfl
    exact ⟨pk_in (n - 2) 6 (by omega) (kn_s2 h2), nm_r (kn_ux (n - 2) (kn_s2 h2)) k⟩
  · have h2 := n2 rfl
    exact ⟨pk_in (n - 2) 6 (by omega) (kn_s2 h2), nm_r (kn_ux (n - 2) (kn_s2 h2)) k⟩
  · have h2 := n2 rfl
    have e : kf_sw 6 v x y n a_stack = upd a_stack (n - 2) (if x = y then 1 else 0) := rfl
    rw [e] at k
    by_cases z : x = y
    · rw [if_pos z] at k
      exact br_t z ⟨pk_in (n - 2) 6 (by omega) (kn_s2 h2), nm_r (kn_ux (n - 2) (kn_s2 h2)) k⟩
    · rw [if_neg z] at k
      exact br_f z ⟨pk_in (n - 2) 6 (by omega) (kn_s2 h2), nm_r (kn_ux (n - 2) (kn_s2 h2)) k⟩
  · have h2 := n2 rfl
    have e : kf_sw 7 v x y n a_stack = upd a_stack (n - 2) (if y ≤ x then 0 else 1) := rfl
    rw [e] at k
    by_cases z : y ≤ x
    · rw [if_pos z] at k
      exact br_t z ⟨pk_in (n - 2) 6 (by omega) (kn_s2 h2), nm_r (kn_ux (n - 2) (kn_s2 h2)) k⟩
    · rw [if_neg z] at k
      exact br_f z ⟨pk_in (n - 2) 6 (by omega) (kn_s2 h2), nm_r (kn_ux (n - 2) (kn_s2 h2)) k⟩
  · exact k
  · have h1 := n1 rfl
    have e : kf_sw 9 v x y n a_stack = upd a_stack (n - 1) (kf_hash y) := rfl
    rw [e] at k
    refine ⟨by decide, nm_e ?_⟩
    unfold kf_hash at k
    by_cases z : (0 : Int64) ≤ ((31 * y.toInt64) + 7) - ((31 * y.toInt64) + 7) / 1009 * 1009
    · rw [if_pos z] at k
      exact br_t z ⟨pk_in (n - 1) 6 (by omega) (kn_s1 h1), nm_r (kn_ux (n - 1) (kn_s1 h1)) k⟩
    · rw [if_neg z] at k
      exact br_f z ⟨pk_in (n - 1) 6 (by omega) (kn_s1 h1), nm_r (kn_ux (n - 1) (kn_s1 h1)) k⟩
  · exact k
  · exact ⟨pk_in n 6 (m1 rfl), nm_r (kn_ux n) k⟩
  · exact k
theorem xx_act {post : SX → Prop} {o n : Nat} {v : Int32} (ho : o < 13) (hn : ¬ n < kf_need o) (h6 : kf_n o n ≤ 6) (n6 : n ≤ 6) (k : post (f_made, f_blocks, f_arrivals, f_top, f_many, f_agains, f_feeNow, a_op, a_number, a_tokens, a_used, a_timed, kf_st o v n a_stack, a_inCoin, a_inA, a_inB, a_ins, a_amount, a_script, a_outs, a_fitting, a_parent, a_height, a_work, a_holds, a_held, a_rewardScript, a_reward, a_delivered, a_arrival, a_right, a_wrong, a_chain, a_born, a_spent, a_since, a_row, a_fees, a_taker, a_again, a_before)) : wpX_act post (f_made, f_blocks, f_arrivals, f_top, f_many, f_agains, f_feeNow, a_op, a_number, a_tokens, a_used, a_timed, a_stack, a_inCoin, a_inA, a_inB, a_ins, a_amount, a_script, a_outs, a_fitting, a_parent, a_height, a_work, a_holds, a_held, a_rewardScript, a_reward, a_delivered, a_arrival, a_right, a_wrong, a_chain, a_born, a_spent, a_since, a_row, a_fees, a_taker, a_again, a_before) (nI o) v (nI n) := by
  unfold kf_st at k
  refine pk_le n 1 (fun h => ?_) (fun h => And.intro (pk_in (n - 2) 6 (by omega) (kn_s2 h)) ?_)
  · refine pk_le n 0 (fun h0 => ?_) (fun h0 => And.intro (pk_in (n - 1) 6 (by omega) (kn_s1 h0)) ?_)
    · refine xx_act35 ho hn h6 n6 ?_
      rw [kf_sw_xy ho hn (x' := a_stack (n - 2)) (y' := a_stack (n - 1)) (fun z => by omega) (fun z => by omega)]
      exact k
    · refine xx_act35 ho hn h6 n6 ?_
      rw [kf_sw_xy ho hn (x' := a_stack (n - 2)) (y' := a_stack (n - 1)) (fun z => by omega) (fun z => by rw [pk_cl (n - 1) (kn_s1 h0)])]
      exact k
  · refine pk_le n 0 (fun h0 => by omega) (fun h0 => And.intro (pk_in (n - 1) 6 (by omega) (kn_s1 h0)) ?_)
    refine xx_act35 ho hn h6 n6 ?_
    rw [pk_cl (n - 1) (kn_s1 h0), pk_cl (n - 2) (kn_s2 h)]
    exact k
end
section
variable {f_made f_blocks f_arrivals f_top f_many f_agains f_feeNow : Int32} {a_op a_number a_tokens a_used a_timed a_inCoin a_inA a_inB a_ins a_amount a_script a_outs a_fitting a_parent a_height a_work a_holds a_held a_rewardScript a_reward a_delivered a_arrival a_right a_wrong a_chain a_born a_spent a_since a_row a_fees a_taker a_again a_before : Nat → Int32}
theorem xx_f154 {post : Int32 → SX → Prop} {J : Int32 → Int32 → Int32 → Int32 → Int32 → Int32 → Int32 → Int32 → Int32 → (Nat → Int32) → (Nat → Int32) → (Nat → Int32) → (Nat → Int32) → (Nat → Int32) → (Nat → Int32) → (Nat → Int32) → (Nat → Int32) → (Nat → Int32) → (Nat → Int32) → (Nat → Int32) → (Nat → Int32) → (Nat → Int32) → (Nat → Int32) → (Nat → Int32) → (Nat → Int32) → (Nat → Int32) → (Nat → Int32) → (Nat → Int32) → (Nat → Int32) → (Nat → Int32) → (Nat → Int32) → (Nat → Int32) → (Nat → Int32) → (Nat → Int32) → (Nat → Int32) → (Nat → Int32) → (Nat → Int32) → (Nat → Int32) → (Nat → Int32) → (Nat → Int32) → (Nat → Int32) → (Nat → Int32) → (Nat → Int32) → Prop}
    {o n k : Nat} {v x8 x2 age h : Int32} {st : Nat → Int32} (ho : o < 13) (hn : ¬ n < kf_need o) (h6 : kf_n o n ≤ 6) (n6 : n ≤ 6) (hz : 1 ≤ n → x8 = st (n - 1)) (hv : o = 12 → ∃ w, w < 9 ∧ v = nI w) (hk : k < 64)
    (H : J (nI (kf_n o n)) (nI (kf_k o v n st k)) f_made f_blocks f_arrivals f_top f_many f_agains f_feeNow a_op a_number a_tokens a_used a_timed (kf_st o v n st) a_inCoin a_inA a_inB a_ins a_amount a_script a_outs a_fitting a_parent a_height a_work a_holds a_held a_rewardScript a_reward a_delivered a_arrival a_right a_wrong a_chain a_born a_spent a_since a_row a_fees a_taker a_again a_before) : wX_fits_154 post J x2 age h (nI n) (nI k) (nI o) x8 v f_made f_blocks f_arrivals f_top f_many f_agains f_feeNow a_op a_number a_tokens a_used a_timed st a_inCoin a_inA a_inB a_ins a_amount a_script a_outs a_fitting a_parent a_height a_work a_holds a_held a_rewardScript a_reward a_delivered a_arrival a_right a_wrong a_chain a_born a_spent a_since a_row a_fees a_taker a_again a_before := by
  unfold wX_fits_154
  refine xx_act ho hn h6 n6 ?_
  refine xx_grows ho (nm_r (kf_gr_n ho hn) ?_)
  refine pk_eq o 12 (fun z => ?_) (fun z => nm_r (nI_1 k) ?_)
  · have h1 : 1 ≤ n := by subst z; exact Nat.not_lt.mp hn
    obtain ⟨w, hw, ew⟩ := hv z
    by_cases y : x8 = 0
    · have e : kf_k o v n st k = k + w + 1 := by
        unfold kf_k; rw [if_pos ⟨z, by rw [← hz h1]; exact y⟩, ew, nI_clamp (by omega)]
      rw [e] at H
      exact br_t y (nm_r (e' := nI (k + w)) (by rw [ew, nI_add]) (nm_r (nI_1 (k + w)) H))
    · have e : kf_k o v n st k = k + 1 := by
        unfold kf_k; rw [if_neg (fun q => y (by rw [hz h1]; exact q.2))]
      rw [e] at H
      exact br_f y (nm_r (nI_1 k) H)
  · have e : kf_k o v n st k = k + 1 := by
      unfold kf_k; rw [if_neg (fun q => z q.1)]
    rw [e] at H
    exact H
theorem xx_f101 {post : Int32 → SX → Prop} {J : Int32 → Int32 → Int32 → Int32 → Int32 → Int32 → Int32 → Int32 → Int32 → (Nat → Int32) → (Nat → Int32) → (Nat → Int32) → (Nat → Int32) → (Nat → Int32) → (Nat → Int32) → (Nat → Int32) → (Nat → Int32) → (Nat → Int32) → (Nat → Int32) → (Nat → Int32) → (Nat → Int32) → (Nat → Int32) → (Nat → Int32) → (Nat → Int32) → (Nat → Int32) → (Nat → Int32) → (Nat → Int32) → (Nat → Int32) → (Nat → Int32) → (Nat → Int32) → (Nat → Int32) → (Nat → Int32) → (Nat → Int32) → (Nat → Int32) → (Nat → Int32) → (Nat → Int32) → (Nat → Int32) → (Nat → Int32) → (Nat → Int32) → (Nat → Int32) → (Nat → Int32) → (Nat → Int32) → (Nat → Int32) → Prop}
    {o n k : Nat} {z0 x2 age h : Int32} {st : Nat → Int32} (ho : o < 13) (hn : ¬ n < kf_need o) (h6 : kf_n o n ≤ 6) (n6 : n ≤ 6) (hz : 1 ≤ n → z0 = st (n - 1)) (hv : o = 12 → ∃ w, w < 9 ∧ a_number k = nI w) (hk : k < 64)
    (kb : (o = 8 ∧ st (n - 1) = 0) ∨ (o = 10 ∧ ¬ a_number k ≤ age) → post 0 (f_made, f_blocks, f_arrivals, f_top, f_many, f_agains, f_feeNow, a_op, a_number, a_tokens, a_used, a_timed, st, a_inCoin, a_inA, a_inB, a_ins, a_amount, a_script, a_outs, a_fitting, a_parent, a_height, a_work, a_holds, a_held, a_rewardScript, a_reward, a_delivered, a_arrival, a_right, a_wrong, a_chain, a_born, a_spent, a_since, a_row, a_fees, a_taker, a_again, a_before))
    (kg : ¬ ((o = 8 ∧ st (n - 1) = 0) ∨ (o = 10 ∧ ¬ a_number k ≤ age)) → J (nI (kf_n o n)) (nI (kf_k o (a_number k) n st k)) f_made f_blocks f_arrivals f_top f_many f_agains f_feeNow a_op a_number a_tokens a_used a_timed (kf_st o (kf_v o (a_number k) h) n st) a_inCoin a_inA a_inB a_ins a_amount a_script a_outs a_fitting a_parent a_height a_work a_holds a_held a_rewardScript a_reward a_delivered a_arrival a_right a_wrong a_chain a_born a_spent a_since a_row a_fees a_taker a_again a_before) :
    wX_fits_101 post J x2 age h (nI n) (nI k) (nI o) z0 f_made f_blocks f_arrivals f_top f_many f_agains f_feeNow a_op a_number a_tokens a_used a_timed st a_inCoin a_inA a_inB a_ins a_amount a_script a_outs a_fitting a_parent a_height a_work a_holds a_held a_rewardScript a_reward a_delivered a_arrival a_right a_wrong a_chain a_born a_spent a_since a_row a_fees a_taker a_again a_before := by
  have ck : (nI k).toNatClampNeg = k := nI_clamp (by omega)
  have g135 : ¬ ((o = 8 ∧ st (n - 1) = 0) ∨ (o = 10 ∧ ¬ a_number k ≤ age)) → wX_fits_135 post J x2 age h (nI n) (nI k) (nI o) z0 f_made f_blocks f_arrivals f_top f_many f_agains f_feeNow a_op a_number a_tokens a_used a_timed st a_inCoin a_inA a_inB a_ins a_amount a_script a_outs a_fitting a_parent a_height a_work a_holds a_held a_rewardScript a_reward a_delivered a_arrival a_right a_wrong a_chain a_born a_spent a_since a_row a_fees a_taker a_again a_before := by
    intro g
    have H := kg g
    unfold wX_fits_135
    refine pk_eq o 11 (fun z => ?_) (fun z => And.intro (pk_in k 64 hk) ?_)
    · refine xx_f154 ho hn h6 n6 hz (fun y => by omega) hk ?_
      have e1 : kf_v o (a_number k) h = h := if_pos z
      have e2 : kf_k o h n st k = kf_k o (a_number k) n st k := by
        unfold kf_k; rw [if_neg (fun q => by omega), if_neg (fun q => by omega)]
      rw [e1] at H
      rw [e2]; exact H
    · rw [ck]
      refine xx_f154 ho hn h6 n6 hz hv hk ?_
      have e1 : kf_v o (a_number k) h = a_number k := if_neg z
      rw [e1] at H
      exact H
  have g115 : ¬ (o = 8 ∧ st (n - 1) = 0) → wX_fits_115 post J x2 age h (nI n) (nI k) (nI o) z0 f_made f_blocks f_arrivals f_top f_many f_agains f_feeNow a_op a_number a_tokens a_used a_timed st a_inCoin a_inA a_inB a_ins a_amount a_script a_outs a_fitting a_parent a_height a_work a_holds a_held a_rewardScript a_reward a_delivered a_arrival a_right a_wrong a_chain a_born a_spent a_since a_row a_fees a_taker a_again a_before := by
    intro g
    unfold wX_fits_115
    refine pk_eq o 10 (fun z => And.intro (pk_in k 64 hk) ?_) (fun z => g135 (fun q => q.elim g (fun q => z q.1)))
    rw [ck]
    exact br_c (fun y => g135 (fun q => q.elim g (fun q => q.2 y))) (fun y => kb (Or.inr ⟨z, y⟩))
  unfold wX_fits_101
  refine pk_eq o 8 (fun z => ?_) (fun z => g115 (fun q => z q.1))
  have h1 : 1 ≤ n := by subst z; exact Nat.not_lt.mp hn
  rw [hz h1] at g115 ⊢
  exact br_c (fun y => kb (Or.inl ⟨z, y⟩)) (fun y => g115 (fun q => y q.2))
theorem xx_fits33 {s : Nat} {tk oP : Nat → Nat} {age h : Int32} (hs : s < 8) (Ht : kn_H a_tokens tk 9) (Ho : kn_H a_op oP 13) (Hk : ∀ k, oP k = 12 → ∃ w, w < 9 ∧ a_number k = nI w) :
    ∀ (f k n : Nat) (st : Nat → Int32), 8 * s + tk s < k + f → 0 < f → k < 100 → n ≤ 6 → ∃ st', ∀ post : Int32 → SX → Prop, post (kn_b (kf_run oP a_number (8 * s + tk s) age h f k n st)) (f_made, f_blocks, f_arrivals, f_top, f_many, f_agains, f_feeNow, a_op, a_number, a_tokens, a_used, a_timed, st', a_inCoin, a_inA, a_inB, a_ins, a_amount, a_script, a_outs, a_fitting, a_parent, a_height, a_work, a_holds, a_held, a_rewardScript, a_reward, a_delivered, a_arrival, a_right, a_wrong, a_chain, a_born, a_spent, a_since, a_row, a_fees, a_taker, a_again, a_before) → wX_fits_33 post (nI s) age h f (nI n) (nI k) f_made f_blocks f_arrivals f_top f_many f_agains f_feeNow a_op a_number a_tokens a_used a_timed st a_inCoin a_inA a_inB a_ins a_amount a_script a_outs a_fitting a_parent a_height a_work a_holds a_held a_rewardScript a_reward a_delivered a_arrival a_right a_wrong a_chain a_born a_spent a_since a_row a_fees a_taker a_again a_before := by
  intro f
  induction f with
  | zero => intro k n st _ h0; omega
  | succ f ih =>
    intro k n st hf h0 hk hn
    have tks := kn_l Ht s
    have e8 := kn_e8 Ht s
    by_cases he : 8 * s + tk s ≤ k
    · refine ⟨st, fun post hp => And.intro (vp_in_nI hs (by omega)) (pk_le _ k (fun _ => ?_) (fun z => absurd he (by omega)) e8)⟩
      rw [kf_run_e he] at hp
      refine pk_le n 0 (fun z => ?_) (fun z => And.intro (pk_in (n - 1) 6 (by omega) (kn_s1 z)) ?_)
      · rw [kn_b0 (decide_eq_false (fun q => by omega))] at hp; exact hp
      · rw [pk_cl (n - 1) (kn_s1 z)]
        by_cases q : st (n - 1) = 0
        · rw [kn_b0 (decide_eq_false (fun w => w.2 q))] at hp; exact br_t q hp
        · rw [kn_b1 (decide_eq_true ⟨z, q⟩)] at hp; exact br_f q hp
    · have ho := kn_l Ho k
      have ek : a_op (nI k).toNatClampNeg = nI (oP k) := kn_at Ho k
      have nd := kf_need2 (oP k)
      have top : ∀ (post : Int32 → SX → Prop), (kf_bad (oP k) (a_number k) age n st → post 0 (f_made, f_blocks, f_arrivals, f_top, f_many, f_agains, f_feeNow, a_op, a_number, a_tokens, a_used, a_timed, st, a_inCoin, a_inA, a_inB, a_ins, a_amount, a_script, a_outs, a_fitting, a_parent, a_height, a_work, a_holds, a_held, a_rewardScript, a_reward, a_delivered, a_arrival, a_right, a_wrong, a_chain, a_born, a_spent, a_since, a_row, a_fees, a_taker, a_again, a_before)) →
          (¬ kf_bad (oP k) (a_number k) age n st → wX_fits_33 post (nI s) age h f (nI (kf_n (oP k) n)) (nI (kf_k (oP k) (a_number k) n st k)) f_made f_blocks f_arrivals f_top f_many f_agains f_feeNow a_op a_number a_tokens a_used a_timed (kf_st (oP k) (kf_v (oP k) (a_number k) h) n st) a_inCoin a_inA a_inB a_ins a_amount a_script a_outs a_fitting a_parent a_height a_work a_holds a_held a_rewardScript a_reward a_delivered a_arrival a_right a_wrong a_chain a_born a_spent a_since a_row a_fees a_taker a_again a_before) →
          wX_fits_33 post (nI s) age h (f + 1) (nI n) (nI k) f_made f_blocks f_arrivals f_top f_many f_agains f_feeNow a_op a_number a_tokens a_used a_timed st a_inCoin a_inA a_inB a_ins a_amount a_script a_outs a_fitting a_parent a_height a_work a_holds a_held a_rewardScript a_reward a_delivered a_arrival a_right a_wrong a_chain a_born a_spent a_since a_row a_fees a_taker a_again a_before := by
        intro post kb kg
        refine And.intro (vp_in_nI hs (by omega)) (pk_le _ k (fun z => absurd z he) (fun _ => And.intro (pk_in k 64 (by omega)) (nm_r ek ?_)) e8)
        refine xx_needs ho ?_
        refine pk_lt n (kf_need (oP k)) (fun z => kb (Or.inl z)) (fun z => ?_)
        have hn' : ¬ n < kf_need (oP k) := Nat.not_lt.mpr z
        refine xx_grows ho ?_
        have n7 : kf_n (oP k) n < 100 := by unfold kf_n; split <;> (try split) <;> omega
        refine pk_le (kf_n (oP k) n) 6 (fun y => ?_) (fun y => kb (Or.inr (Or.inl y))) (kf_gr_n ho hn')
        have G : ∀ z0, (1 ≤ n → z0 = st (n - 1)) → wX_fits_101 post (wX_fits_33 post (nI s) age h f) (nI s) age h (nI n) (nI k) (nI (oP k)) z0 f_made f_blocks f_arrivals f_top f_many f_agains f_feeNow a_op a_number a_tokens a_used a_timed st a_inCoin a_inA a_inB a_ins a_amount a_script a_outs a_fitting a_parent a_height a_work a_holds a_held a_rewardScript a_reward a_delivered a_arrival a_right a_wrong a_chain a_born a_spent a_since a_row a_fees a_taker a_again a_before := by
          intro z0 hz
          refine xx_f101 ho hn' y hn hz (Hk k) (by omega) (fun q => kb (Or.inr (Or.inr q))) (fun q => kg ?_)
          rintro (w | w | w)
          · exact hn' w
          · omega
          · exact q w
        refine pk_le n 0 (fun w => G 0 (fun w' => by omega)) (fun w => And.intro (pk_in (n - 1) 6 (by omega) (kn_s1 w)) (G _ (fun _ => ?_)))
        rw [pk_cl (n - 1) (kn_s1 w)]
      by_cases hb : kf_bad (oP k) (a_number k) age n st
      · refine ⟨st, fun post hp => top post (fun _ => ?_) (fun z => absurd hb z)⟩
        rw [kf_run_b he hb] at hp; exact hp
      · have n6 : kf_n (oP k) n ≤ 6 := by
          apply Nat.le_of_not_lt; intro z; exact hb (Or.inr (Or.inl z))
        have kk : k < kf_k (oP k) (a_number k) n st k ∧ kf_k (oP k) (a_number k) n st k < k + 10 := by
          unfold kf_k
          by_cases q : oP k = 12 ∧ st (n - 1) = 0
          · rw [if_pos q]
            obtain ⟨w, hw, ew⟩ := Hk k q.1
            rw [ew, nI_clamp (by omega)]; omega
          · rw [if_neg q]; omega
        obtain ⟨st', H⟩ := ih (kf_k (oP k) (a_number k) n st k) (kf_n (oP k) n) (kf_st (oP k) (kf_v (oP k) (a_number k) h) n st) (by omega) (by omega) (by omega) n6
        refine ⟨st', fun post hp => top post (fun z => absurd z hb) (fun _ => H post ?_)⟩
        rw [kf_run_s he hb] at hp; exact hp
end
section
variable {f_made f_blocks f_arrivals f_top f_many f_agains f_feeNow : Int32} {a_op a_number a_tokens a_used a_timed a_stack a_inCoin a_inA a_inB a_ins a_amount a_script a_outs a_fitting a_parent a_height a_work a_holds a_held a_rewardScript a_reward a_delivered a_arrival a_right a_wrong a_chain a_born a_spent a_since a_row a_fees a_taker a_again a_before : Nat → Int32}
theorem xx_fits {s i : Nat} {tk oP : Nat → Nat} {age h : Int32} (hs : s < 8) (hi : i < 123) (Ht : kn_H a_tokens tk 9) (Ho : kn_H a_op oP 13) (Hk : ∀ k, oP k = 12 → ∃ w, w < 9 ∧ a_number k = nI w) :
    ∃ st', ∀ post : Int32 → SX → Prop, post (kn_b (kf_go oP a_number tk s (a_inA i) (a_inB i) age h)) (f_made, f_blocks, f_arrivals, f_top, f_many, f_agains, f_feeNow, a_op, a_number, a_tokens, a_used, a_timed, st', a_inCoin, a_inA, a_inB, a_ins, a_amount, a_script, a_outs, a_fitting, a_parent, a_height, a_work, a_holds, a_held, a_rewardScript, a_reward, a_delivered, a_arrival, a_right, a_wrong, a_chain, a_born, a_spent, a_since, a_row, a_fees, a_taker, a_again, a_before) → wpX_fits post (f_made, f_blocks, f_arrivals, f_top, f_many, f_agains, f_feeNow, a_op, a_number, a_tokens, a_used, a_timed, a_stack, a_inCoin, a_inA, a_inB, a_ins, a_amount, a_script, a_outs, a_fitting, a_parent, a_height, a_work, a_holds, a_held, a_rewardScript, a_reward, a_delivered, a_arrival, a_right, a_wrong, a_chain, a_born, a_spent, a_since, a_row, a_fees, a_taker, a_again, a_before) (nI i) (nI s) age h := by
  have tks := kn_l Ht s
  obtain ⟨st', H⟩ := xx_fits33 (f_made := f_made) (f_blocks := f_blocks) (f_arrivals := f_arrivals) (f_top := f_top) (f_many := f_many) (f_agains := f_agains) (f_feeNow := f_feeNow) (a_op := a_op) (a_number := a_number) (a_tokens := a_tokens) (a_used := a_used) (a_timed := a_timed) (a_inCoin := a_inCoin) (a_inA := a_inA) (a_inB := a_inB) (a_ins := a_ins) (a_amount := a_amount) (a_script := a_script) (a_outs := a_outs) (a_fitting := a_fitting) (a_parent := a_parent) (a_height := a_height) (a_work := a_work) (a_holds := a_holds) (a_held := a_held) (a_rewardScript := a_rewardScript) (a_reward := a_reward) (a_delivered := a_delivered) (a_arrival := a_arrival) (a_right := a_right) (a_wrong := a_wrong) (a_chain := a_chain) (a_born := a_born) (a_spent := a_spent) (a_since := a_since) (a_row := a_row) (a_fees := a_fees) (a_taker := a_taker) (a_again := a_again) (a_before := a_before) (age := age) (h := h) hs Ht Ho Hk 9 (8 * s) 2 (upd (upd a_stack 0 (a_inA i)) 1 (a_inB i)) (by omega) (by omega) (by omega) (by omega)
  refine ⟨st', fun post hp => And.intro (pk_in i 123 hi) (nm_r (e' := upd a_stack 0 (a_inA i)) (by rw [nI_clamp (by omega)]) (And.intro (pk_in i 123 hi) (nm_r (e' := upd (upd a_stack 0 (a_inA i)) 1 (a_inB i)) (by rw [nI_clamp (by omega)]) (nm_r (kn_m8 s) ⟨9, H post ?_⟩))))⟩
  rw [kf_go_junk]
  exact hp
end
end
section
/-! ===== Y: scripts ===== -/
section
variable {g_made g_blocks g_arrivals g_tip g_pooled g_chainLength : Int32} {b_op b_arg b_length b_ins b_inCoin b_inA b_inB b_outs b_amount b_lock b_parent b_work b_rewardLock b_height b_many b_holds b_delivered b_arrived b_pool b_chain b_from b_worth b_within b_spent b_stack b_again b_chosen : Nat → Int32}
theorem yy_d35 {post : Int32 → SY → Prop} {o n : Nat} {v h x y : Int32} (ho : o < 13) (hn : ¬ n < kf_need o) (h6 : kf_n o n ≤ 6) (n6 : n ≤ 6) (k : post (nI (kf_n o n)) (g_made, g_blocks, g_arrivals, g_tip, g_pooled, g_chainLength, b_op, b_arg, b_length, b_ins, b_inCoin, b_inA, b_inB, b_outs, b_amount, b_lock, b_parent, b_work, b_rewardLock, b_height, b_many, b_holds, b_delivered, b_arrived, b_pool, b_chain, b_from, b_worth, b_within, b_spent, kf_sw o (kf_v o v h) x y n b_stack, b_again, b_chosen)) : wY_done_35 post (nI o) v (nI n) h y x g_made g_blocks g_arrivals g_tip g_pooled g_chainLength b_op b_arg b_length b_ins b_inCoin b_inA b_inB b_outs b_amount b_lock b_parent b_work b_rewardLock b_height b_many b_holds b_delivered b_arrived b_pool b_chain b_from b_worth b_within b_spent b_stack b_again b_chosen := by
  have w : o = 0 ∨ o = 1 ∨ o = 2 ∨ o = 3 ∨ o = 4 ∨ o = 5 ∨ o = 6 ∨ o = 7 ∨ o = 8 ∨ o = 9 ∨ o = 10 ∨ o = 11 ∨ o = 12 := by omega
  have n2 : kf_need o = 2 → 2 ≤ n := fun z => by omega
  have n1 : kf_need o = 1 → 1 ≤ n := fun z => by omega
  have m1 : kf_n o n = n + 1 → n < 6 := fun z => by omega
  clear hn h6 ho
  unfold wY_done_35
  rcases w with rfl | rfl | rfl | rfl | rfl | rfl | rfl | rfl | rfl | rfl | rfl | rfl | rfl
  all_goals (repeat (first | refine br_t (by decide) ?_ | refine br_f (by decide) ?_))
  · refine ⟨pk_in n 6 (m1 rfl), nm_r (kn_ux n) ?_⟩
    rw [nI_1]; exact k
  · refine ⟨pk_in n 6 (m1 rfl), nm_r (kn_ux n) ?_⟩
    rw [nI_1]; exact k
  · rw [kn_s1 (n1 rfl)]; exact k
  · have h2 := n2 rfl
    refine ⟨pk_in (n - 1) 6 (by omega) (kn_s1 (by omega)), nm_r (kn_ux (n - 1) (kn_s1 (by omega))) ⟨pk_in (n - 2) 6 (by omega) (kn_s2 h2), nm_r (kn_ux (n - 2) (kn_s2 h2)) ?_⟩⟩
    rw [kn_uc (by omega)]
    exact k
  · have h2 := n2 rfl
    refine ⟨pk_in (n - 2) 6 (by omega) (kn_s2 h2), nm_r (kn_ux (n - 2) (kn_s2 h2)) ?_⟩
    rw [kn_s1 (by omega)]; exact k
  · have h2 := n2 rfl
    refine ⟨pk_in (n - 2) 6 (by omega) (kn_s2 h2), nm_r (kn_ux (n - 2) (kn_s2 h2)) ?_⟩
    rw [kn_s1 (by omega)]; exact k
  · have h2 := n2 rfl
    have e : kf_sw 6 (kf_v 6 v h) x y n b_stack = upd b_stack (n - 2) (if x = y then 1 else 0) := rfl
    rw [e] at k
    by_cases z : x = y
    · rw [if_pos z] at k
      refine br_t z ⟨pk_in (n - 2) 6 (by omega) (kn_s2 h2), nm_r (kn_ux (n - 2) (kn_s2 h2)) ?_⟩
      rw [kn_s1 (by omega)]; exact k
    · rw [if_neg z] at k
      refine br_f z ⟨pk_in (n - 2) 6 (by omega) (kn_s2 h2), nm_r (kn_ux (n - 2) (kn_s2 h2)) ?_⟩
      rw [kn_s1 (by omega)]; exact k
  · have h2 := n2 rfl
    have e : kf_sw 7 (kf_v 7 v h) x y n b_stack = upd b_stack (n - 2) (if y ≤ x then 0 else 1) := rfl
    rw [e] at k
    by_cases z : y ≤ x
    · rw [if_pos z] at k
      refine br_t z ⟨pk_in (n - 2) 6 (by omega) (kn_s2 h2), nm_r (kn_ux (n - 2) (kn_s2 h2)) ?_⟩
      rw [kn_s1 (by omega)]; exact k
    · rw [if_neg z] at k
      refine br_f z ⟨pk_in (n - 2) 6 (by omega) (kn_s2 h2), nm_r (kn_ux (n - 2) (kn_s2 h2)) ?_⟩
      rw [kn_s1 (by omega)]; exact k
  · rw [kn_s1 (n1 rfl)]; exact k
  · have h1 := n1 rfl
    have e : kf_sw 9 (kf_v 9 v h) x y n b_stack = upd b_stack (n - 1) (kf_hash y) := rfl
    rw [e] at k
    refine ⟨by decide, nm_e ?_⟩
    unfold kf_hash at k
    by_cases z : (0 : Int64) ≤ ((31 * y.toInt64) + 7) - ((31 * y.toInt64) + 7) / 1009 * 1009
    · rw [if_pos z] at k
      exact br_t z ⟨pk_in (n - 1) 6 (by omega) (kn_s1 h1), nm_r (kn_ux (n - 1) (kn_s1 h1)) k⟩
    · rw [if_neg z] at k
      exact br_f z ⟨pk_in (n - 1) 6 (by omega) (kn_s1 h1), nm_r (kn_ux (n - 1) (kn_s1 h1)) k⟩
  · exact k
  · refine ⟨pk_in n 6 (m1 rfl), nm_r (kn_ux n) ?_⟩
    rw [nI_1]; exact k
  · rw [kn_s1 (n1 rfl)]; exact k
theorem yy_done {post : Int32 → SY → Prop} {o n : Nat} {v h : Int32} (ho : o < 13) (hn : ¬ n < kf_need o) (h6 : kf_n o n ≤ 6) (n6 : n ≤ 6) (k : post (nI (kf_n o n)) (g_made, g_blocks, g_arrivals, g_tip, g_pooled, g_chainLength, b_op, b_arg, b_length, b_ins, b_inCoin, b_inA, b_inB, b_outs, b_amount, b_lock, b_parent, b_work, b_rewardLock, b_height, b_many, b_holds, b_delivered, b_arrived, b_pool, b_chain, b_from, b_worth, b_within, b_spent, kf_st o (kf_v o v h) n b_stack, b_again, b_chosen)) : wpY_done post (g_made, g_blocks, g_arrivals, g_tip, g_pooled, g_chainLength, b_op, b_arg, b_length, b_ins, b_inCoin, b_inA, b_inB, b_outs, b_amount, b_lock, b_parent, b_work, b_rewardLock, b_height, b_many, b_holds, b_delivered, b_arrived, b_pool, b_chain, b_from, b_worth, b_within, b_spent, b_stack, b_again, b_chosen) (nI o) v (nI n) h := by
  unfold kf_st at k
  refine pk_le n 0 (fun h0 => ?_) (fun h0 => And.intro (pk_in (n - 1) 6 (by omega) (kn_s1 h0)) ?_)
  · refine pk_le n 1 (fun h1 => ?_) (fun h1 => by omega)
    refine yy_d35 ho hn h6 n6 ?_
    rw [kf_sw_xy ho hn (x' := b_stack (n - 2)) (y' := b_stack (n - 1)) (fun z => by omega) (fun z => by omega)]
    exact k
  · refine pk_le n 1 (fun h1 => ?_) (fun h1 => And.intro (pk_in (n - 2) 6 (by omega) (kn_s2 h1)) ?_)
    · refine yy_d35 ho hn h6 n6 ?_
      rw [kf_sw_xy ho hn (x' := b_stack (n - 2)) (y' := b_stack (n - 1)) (fun z => by omega) (fun z => by rw [pk_cl (n - 1) (kn_s1 h0)])]
      exact k
    · refine yy_d35 ho hn h6 n6 ?_
      rw [pk_cl (n - 1) (kn_s1 h0), pk_cl (n - 2) (kn_s2 h1)]
      exact k
end
section
variable {g_made g_blocks g_arrivals g_tip g_pooled g_chainLength : Int32} {b_op b_arg b_length b_ins b_inCoin b_inA b_inB b_outs b_amount b_lock b_parent b_work b_rewardLock b_height b_many b_holds b_delivered b_arrived b_pool b_chain b_from b_worth b_within b_spent b_again b_chosen : Nat → Int32}
theorem yy_f164 {post : Int32 → SY → Prop} {J : Int32 → Int32 → Int32 → Int32 → Int32 → Int32 → Int32 → Int32 → (Nat → Int32) → (Nat → Int32) → (Nat → Int32) → (Nat → Int32) → (Nat → Int32) → (Nat → Int32) → (Nat → Int32) → (Nat → Int32) → (Nat → Int32) → (Nat → Int32) → (Nat → Int32) → (Nat → Int32) → (Nat → Int32) → (Nat → Int32) → (Nat → Int32) → (Nat → Int32) → (Nat → Int32) → (Nat → Int32) → (Nat → Int32) → (Nat → Int32) → (Nat → Int32) → (Nat → Int32) → (Nat → Int32) → (Nat → Int32) → (Nat → Int32) → (Nat → Int32) → (Nat → Int32) → Prop}
    {o n k : Nat} {s h g : Int32} {st : Nat → Int32} (ho : o < 13) (hn : ¬ n < kf_need o) (h6 : kf_n o n ≤ 6) (n6 : n ≤ 6) (hv : o = 12 → ∃ w, w < 9 ∧ b_arg k = nI w) (hk : k < 64)
    (kb : (o = 8 ∧ st (n - 1) = 0) ∨ (o = 10 ∧ ¬ b_arg k ≤ h - g) → post 0 (g_made, g_blocks, g_arrivals, g_tip, g_pooled, g_chainLength, b_op, b_arg, b_length, b_ins, b_inCoin, b_inA, b_inB, b_outs, b_amount, b_lock, b_parent, b_work, b_rewardLock, b_height, b_many, b_holds, b_delivered, b_arrived, b_pool, b_chain, b_from, b_worth, b_within, b_spent, st, b_again, b_chosen))
    (kg : ¬ ((o = 8 ∧ st (n - 1) = 0) ∨ (o = 10 ∧ ¬ b_arg k ≤ h - g)) → J (nI (kf_n o n)) (nI (kf_k o (b_arg k) n st k)) g_made g_blocks g_arrivals g_tip g_pooled g_chainLength b_op b_arg b_length b_ins b_inCoin b_inA b_inB b_outs b_amount b_lock b_parent b_work b_rewardLock b_height b_many b_holds b_delivered b_arrived b_pool b_chain b_from b_worth b_within b_spent (kf_st o (kf_v o (b_arg k) h) n st) b_again b_chosen) :
    wY_fits_164 post J h g s (nI n) (nI k) (nI o) g_made g_blocks g_arrivals g_tip g_pooled g_chainLength b_op b_arg b_length b_ins b_inCoin b_inA b_inB b_outs b_amount b_lock b_parent b_work b_rewardLock b_height b_many b_holds b_delivered b_arrived b_pool b_chain b_from b_worth b_within b_spent st b_again b_chosen := by
  have ck : (nI k).toNatClampNeg = k := nI_clamp (by omega)
  have g209 : ¬ ((o = 8 ∧ st (n - 1) = 0) ∨ (o = 10 ∧ ¬ b_arg k ≤ h - g)) → wY_fits_209 post J h g s (nI n) (nI k) (nI o) g_made g_blocks g_arrivals g_tip g_pooled g_chainLength b_op b_arg b_length b_ins b_inCoin b_inA b_inB b_outs b_amount b_lock b_parent b_work b_rewardLock b_height b_many b_holds b_delivered b_arrived b_pool b_chain b_from b_worth b_within b_spent st b_again b_chosen := by
    intro q
    have H := kg q
    have g244 : ∀ k' : Nat, kf_k o (b_arg k) n st k = k' + 1 → wY_fits_244 post J h g s (nI n) (nI k') (nI o) (b_arg k) g_made g_blocks g_arrivals g_tip g_pooled g_chainLength b_op b_arg b_length b_ins b_inCoin b_inA b_inB b_outs b_amount b_lock b_parent b_work b_rewardLock b_height b_many b_holds b_delivered b_arrived b_pool b_chain b_from b_worth b_within b_spent st b_again b_chosen := by
      intro k' e
      unfold wY_fits_244
      refine yy_done ho hn h6 n6 (nm_r (nI_1 k') ?_)
      rw [e] at H; exact H
    unfold wY_fits_209
    refine ⟨pk_in k 64 hk, ?_⟩
    rw [ck]
    refine nm_e (pk_eq o 12 (fun z => ?_) (fun z => g244 k (if_neg (fun q => z q.1))))
    have h1 : 1 ≤ n := by subst z; exact Nat.not_lt.mp hn
    refine And.intro (pk_in (n - 1) 6 (by omega) (kn_s1 h1)) ?_
    rw [pk_cl (n - 1) (kn_s1 h1)]
    refine br_c (fun y => ?_) (fun y => g244 k (if_neg (fun q => y q.2)))
    obtain ⟨w, hw, ew⟩ := hv z
    refine nm_r (e' := nI (k + w)) (by rw [ew, nI_add]) (g244 (k + w) ?_)
    unfold kf_k; rw [if_pos ⟨z, y⟩, ew, nI_clamp (by omega)]
  have g188 : ¬ (o = 10 ∧ ¬ b_arg k ≤ h - g) → wY_fits_188 post J h g s (nI n) (nI k) (nI o) g_made g_blocks g_arrivals g_tip g_pooled g_chainLength b_op b_arg b_length b_ins b_inCoin b_inA b_inB b_outs b_amount b_lock b_parent b_work b_rewardLock b_height b_many b_holds b_delivered b_arrived b_pool b_chain b_from b_worth b_within b_spent st b_again b_chosen := by
    intro q
    unfold wY_fits_188
    refine pk_eq o 8 (fun z => ?_) (fun z => g209 (fun w => w.elim (fun w => z w.1) q))
    have h1 : 1 ≤ n := by subst z; exact Nat.not_lt.mp hn
    refine And.intro (pk_in (n - 1) 6 (by omega) (kn_s1 h1)) ?_
    rw [pk_cl (n - 1) (kn_s1 h1)]
    exact br_c (fun y => kb (Or.inl ⟨z, y⟩)) (fun y => g209 (fun w => w.elim (fun w => y w.2) q))
  unfold wY_fits_164
  refine pk_eq o 10 (fun z => And.intro (pk_in k 64 hk) ?_) (fun z => g188 (fun w => z w.1))
  rw [ck]
  exact br_c (fun y => g188 (fun w => w.2 y)) (fun y => kb (Or.inr ⟨z, y⟩))
theorem yy_f118 {post : Int32 → SY → Prop} {J : Int32 → Int32 → Int32 → Int32 → Int32 → Int32 → Int32 → Int32 → (Nat → Int32) → (Nat → Int32) → (Nat → Int32) → (Nat → Int32) → (Nat → Int32) → (Nat → Int32) → (Nat → Int32) → (Nat → Int32) → (Nat → Int32) → (Nat → Int32) → (Nat → Int32) → (Nat → Int32) → (Nat → Int32) → (Nat → Int32) → (Nat → Int32) → (Nat → Int32) → (Nat → Int32) → (Nat → Int32) → (Nat → Int32) → (Nat → Int32) → (Nat → Int32) → (Nat → Int32) → (Nat → Int32) → (Nat → Int32) → (Nat → Int32) → (Nat → Int32) → (Nat → Int32) → Prop}
    {o n k : Nat} {s h g : Int32} {st : Nat → Int32} (ho : o < 13) (n6 : n ≤ 6) (hv : o = 12 → ∃ w, w < 9 ∧ b_arg k = nI w) (hk : k < 64)
    (kb : kf_bad o (b_arg k) (h - g) n st → post 0 (g_made, g_blocks, g_arrivals, g_tip, g_pooled, g_chainLength, b_op, b_arg, b_length, b_ins, b_inCoin, b_inA, b_inB, b_outs, b_amount, b_lock, b_parent, b_work, b_rewardLock, b_height, b_many, b_holds, b_delivered, b_arrived, b_pool, b_chain, b_from, b_worth, b_within, b_spent, st, b_again, b_chosen))
    (kg : ¬ kf_bad o (b_arg k) (h - g) n st → J (nI (kf_n o n)) (nI (kf_k o (b_arg k) n st k)) g_made g_blocks g_arrivals g_tip g_pooled g_chainLength b_op b_arg b_length b_ins b_inCoin b_inA b_inB b_outs b_amount b_lock b_parent b_work b_rewardLock b_height b_many b_holds b_delivered b_arrived b_pool b_chain b_from b_worth b_within b_spent (kf_st o (kf_v o (b_arg k) h) n st) b_again b_chosen) :
    wY_fits_118 post J h g s (nI n) (nI k) (nI o) (nI (kf_need o)) g_made g_blocks g_arrivals g_tip g_pooled g_chainLength b_op b_arg b_length b_ins b_inCoin b_inA b_inB b_outs b_amount b_lock b_parent b_work b_rewardLock b_height b_many b_holds b_delivered b_arrived b_pool b_chain b_from b_worth b_within b_spent st b_again b_chosen := by
  have nd := kf_need2 o
  have g164 : ¬ n < kf_need o → kf_n o n ≤ 6 → wY_fits_164 post J h g s (nI n) (nI k) (nI o) g_made g_blocks g_arrivals g_tip g_pooled g_chainLength b_op b_arg b_length b_ins b_inCoin b_inA b_inB b_outs b_amount b_lock b_parent b_work b_rewardLock b_height b_many b_holds b_delivered b_arrived b_pool b_chain b_from b_worth b_within b_spent st b_again b_chosen := by
    intro hn h6
    refine yy_f164 ho hn h6 n6 hv hk (fun q => kb (Or.inr (Or.inr q))) (fun q => kg ?_)
    rintro (w | w | w)
    · exact hn w
    · omega
    · exact q w
  have g1 : (o = 0 ∨ o = 1 ∨ o = 11) → wY_fits_138 post J h g s (nI n) (nI k) (nI o) (nI (kf_need o)) g_made g_blocks g_arrivals g_tip g_pooled g_chainLength b_op b_arg b_length b_ins b_inCoin b_inA b_inB b_outs b_amount b_lock b_parent b_work b_rewardLock b_height b_many b_holds b_delivered b_arrived b_pool b_chain b_from b_worth b_within b_spent st b_again b_chosen := by
    intro c
    have e : kf_n o n = n + 1 := if_pos c
    unfold wY_fits_138 wY_fits_143
    refine pk_lt n (kf_need o) (fun z => kb (Or.inl z)) (fun z => br_f kn_10 (pk_eq n 6 (fun y => kb (Or.inr (Or.inl (by omega)))) (fun y => g164 (by omega) (by omega))))
  unfold wY_fits_118
  refine pk_eq o 0 (fun z => g1 (by omega)) (fun z0 => pk_eq o 1 (fun z => g1 (by omega)) (fun z1 => pk_eq o 11 (fun z => g1 (by omega)) (fun z11 => ?_)))
  unfold wY_fits_143
  refine pk_lt n (kf_need o) (fun z => kb (Or.inl z)) (fun z => br_t rfl (g164 (by omega) ?_))
  unfold kf_n; rw [if_neg (by omega)]; split <;> omega
theorem yy_fits50 {s : Nat} {tk oP : Nat → Nat} {h g : Int32} (hs : s < 8) (Ht : kn_H b_length tk 9) (Ho : kn_H b_op oP 13) (Hk : ∀ k, oP k = 12 → ∃ w, w < 9 ∧ b_arg k = nI w) :
    ∀ (f k n : Nat) (st : Nat → Int32), 8 * s + tk s < k + f → 0 < f → k < 100 → n ≤ 6 → ∃ st', ∀ post : Int32 → SY → Prop, post (kn_b (kf_run oP b_arg (8 * s + tk s) (h - g) h f k n st)) (g_made, g_blocks, g_arrivals, g_tip, g_pooled, g_chainLength, b_op, b_arg, b_length, b_ins, b_inCoin, b_inA, b_inB, b_outs, b_amount, b_lock, b_parent, b_work, b_rewardLock, b_height, b_many, b_holds, b_delivered, b_arrived, b_pool, b_chain, b_from, b_worth, b_within, b_spent, st', b_again, b_chosen) → wY_fits_50 post h g (nI s) f (nI n) (nI k) g_made g_blocks g_arrivals g_tip g_pooled g_chainLength b_op b_arg b_length b_ins b_inCoin b_inA b_inB b_outs b_amount b_lock b_parent b_work b_rewardLock b_height b_many b_holds b_delivered b_arrived b_pool b_chain b_from b_worth b_within b_spent st b_again b_chosen := by
  intro f
  induction f with
  | zero => intro k n st _ h0; omega
  | succ f ih =>
    intro k n st hf h0 hk hn
    have tks := kn_l Ht s
    have e8 := kn_e8 Ht s
    by_cases he : 8 * s + tk s ≤ k
    · refine ⟨st, fun post hp => And.intro (vp_in_nI hs (by omega)) (pk_le _ k (fun _ => ?_) (fun z => absurd he (by omega)) e8)⟩
      rw [kf_run_e he] at hp
      refine pk_le n 0 (fun z => ?_) (fun z => And.intro (pk_in (n - 1) 6 (by omega) (kn_s1 z)) ?_)
      · rw [kn_b0 (decide_eq_false (fun q => by omega))] at hp; exact hp
      · rw [pk_cl (n - 1) (kn_s1 z)]
        by_cases q : st (n - 1) = 0
        · rw [kn_b0 (decide_eq_false (fun w => w.2 q))] at hp; exact br_t q hp
        · rw [kn_b1 (decide_eq_true ⟨z, q⟩)] at hp; exact br_f q hp
    · have ho := kn_l Ho k
      have ek : b_op (nI k).toNatClampNeg = nI (oP k) := kn_at Ho k
      have top : ∀ (post : Int32 → SY → Prop), (kf_bad (oP k) (b_arg k) (h - g) n st → post 0 (g_made, g_blocks, g_arrivals, g_tip, g_pooled, g_chainLength, b_op, b_arg, b_length, b_ins, b_inCoin, b_inA, b_inB, b_outs, b_amount, b_lock, b_parent, b_work, b_rewardLock, b_height, b_many, b_holds, b_delivered, b_arrived, b_pool, b_chain, b_from, b_worth, b_within, b_spent, st, b_again, b_chosen)) →
          (¬ kf_bad (oP k) (b_arg k) (h - g) n st → wY_fits_50 post h g (nI s) f (nI (kf_n (oP k) n)) (nI (kf_k (oP k) (b_arg k) n st k)) g_made g_blocks g_arrivals g_tip g_pooled g_chainLength b_op b_arg b_length b_ins b_inCoin b_inA b_inB b_outs b_amount b_lock b_parent b_work b_rewardLock b_height b_many b_holds b_delivered b_arrived b_pool b_chain b_from b_worth b_within b_spent (kf_st (oP k) (kf_v (oP k) (b_arg k) h) n st) b_again b_chosen) →
          wY_fits_50 post h g (nI s) (f + 1) (nI n) (nI k) g_made g_blocks g_arrivals g_tip g_pooled g_chainLength b_op b_arg b_length b_ins b_inCoin b_inA b_inB b_outs b_amount b_lock b_parent b_work b_rewardLock b_height b_many b_holds b_delivered b_arrived b_pool b_chain b_from b_worth b_within b_spent st b_again b_chosen := by
        intro post kb kg
        have G := yy_f118 (g_made := g_made) (g_blocks := g_blocks) (g_arrivals := g_arrivals) (g_tip := g_tip) (g_pooled := g_pooled) (g_chainLength := g_chainLength) (b_op := b_op) (b_arg := b_arg) (b_length := b_length) (b_ins := b_ins) (b_inCoin := b_inCoin) (b_inA := b_inA) (b_inB := b_inB) (b_outs := b_outs) (b_amount := b_amount) (b_lock := b_lock) (b_parent := b_parent) (b_work := b_work) (b_rewardLock := b_rewardLock) (b_height := b_height) (b_many := b_many) (b_holds := b_holds) (b_delivered := b_delivered) (b_arrived := b_arrived) (b_pool := b_pool) (b_chain := b_chain) (b_from := b_from) (b_worth := b_worth) (b_within := b_within) (b_spent := b_spent) (b_again := b_again) (b_chosen := b_chosen) (J := wY_fits_50 post h g (nI s) f) (s := nI s) ho hn (Hk k) (show k < 64 by omega) kb kg
        refine And.intro (vp_in_nI hs (by omega)) (pk_le _ k (fun z => absurd z he) (fun _ => And.intro (pk_in k 64 (by omega)) (nm_r ek ?_)) e8)
        have g0 : (oP k = 0 ∨ oP k = 10 ∨ oP k = 11) → wY_fits_96 post (wY_fits_50 post h g (nI s) f) h g (nI s) (nI n) (nI k) (nI (oP k)) g_made g_blocks g_arrivals g_tip g_pooled g_chainLength b_op b_arg b_length b_ins b_inCoin b_inA b_inB b_outs b_amount b_lock b_parent b_work b_rewardLock b_height b_many b_holds b_delivered b_arrived b_pool b_chain b_from b_worth b_within b_spent st b_again b_chosen := by
          intro c
          have e : kf_need (oP k) = 0 := if_pos c
          rw [e] at G; exact G
        have g1 : ¬ (oP k = 0 ∨ oP k = 10 ∨ oP k = 11) → ¬ (3 ≤ oP k ∧ oP k ≤ 7) → wY_fits_117 post (wY_fits_50 post h g (nI s) f) h g (nI s) (nI n) (nI k) (nI (oP k)) g_made g_blocks g_arrivals g_tip g_pooled g_chainLength b_op b_arg b_length b_ins b_inCoin b_inA b_inB b_outs b_amount b_lock b_parent b_work b_rewardLock b_height b_many b_holds b_delivered b_arrived b_pool b_chain b_from b_worth b_within b_spent st b_again b_chosen := by
          intro c d
          have e : kf_need (oP k) = 1 := (if_neg c).trans (if_neg d)
          rw [e] at G; exact G
        have g2 : ¬ (oP k = 0 ∨ oP k = 10 ∨ oP k = 11) → (3 ≤ oP k ∧ oP k ≤ 7) → wY_fits_118 post (wY_fits_50 post h g (nI s) f) h g (nI s) (nI n) (nI k) (nI (oP k)) 2 g_made g_blocks g_arrivals g_tip g_pooled g_chainLength b_op b_arg b_length b_ins b_inCoin b_inA b_inB b_outs b_amount b_lock b_parent b_work b_rewardLock b_height b_many b_holds b_delivered b_arrived b_pool b_chain b_from b_worth b_within b_spent st b_again b_chosen := by
          intro c d
          have e : kf_need (oP k) = 2 := (if_neg c).trans (if_pos d)
          rw [e] at G; exact G
        exact pk_eq (oP k) 0 (fun z => g0 (by omega)) (fun z0 => pk_eq (oP k) 10 (fun z => g0 (by omega)) (fun z10 => pk_eq (oP k) 11 (fun z => g0 (by omega)) (fun z11 => pk_le (oP k) 2 (fun z => g1 (by omega) (by omega)) (fun z => pk_le 8 (oP k) (fun y => g1 (by omega) (by omega)) (fun y => g2 (by omega) (by omega))))))
      by_cases hb : kf_bad (oP k) (b_arg k) (h - g) n st
      · refine ⟨st, fun post hp => top post (fun _ => ?_) (fun z => absurd hb z)⟩
        rw [kf_run_b he hb] at hp; exact hp
      · have n6 : kf_n (oP k) n ≤ 6 := by
          apply Nat.le_of_not_lt; intro z; exact hb (Or.inr (Or.inl z))
        have kk : k < kf_k (oP k) (b_arg k) n st k ∧ kf_k (oP k) (b_arg k) n st k < k + 10 := by
          unfold kf_k
          by_cases q : oP k = 12 ∧ st (n - 1) = 0
          · rw [if_pos q]
            obtain ⟨w, hw, ew⟩ := Hk k q.1
            rw [ew, nI_clamp (by omega)]; omega
          · rw [if_neg q]; omega
        obtain ⟨st', H⟩ := ih (kf_k (oP k) (b_arg k) n st k) (kf_n (oP k) n) (kf_st (oP k) (kf_v (oP k) (b_arg k) h) n st) (by omega) (by omega) (by omega) n6
        refine ⟨st', fun post hp => top post (fun z => absurd z hb) (fun _ => H post ?_)⟩
        rw [kf_run_s he hb] at hp; exact hp
end
section
variable {g_made g_blocks g_arrivals g_tip g_pooled g_chainLength : Int32} {b_op b_arg b_length b_ins b_inCoin b_inA b_inB b_outs b_amount b_lock b_parent b_work b_rewardLock b_height b_many b_holds b_delivered b_arrived b_pool b_chain b_from b_worth b_within b_spent b_stack b_again b_chosen : Nat → Int32}
theorem yy_fits {c : Nat} {tk oP sc rs : Nat → Nat} {a b h g : Int32} (hc : c < 152) (Ht : kn_H b_length tk 9) (Ho : kn_H b_op oP 13) (Hk : ∀ k, oP k = 12 → ∃ w, w < 9 ∧ b_arg k = nI w) (Hs : kn_H b_lock sc 8) (Hr : kn_H b_rewardLock rs 8) :
    ∃ st', ∀ post : Int32 → SY → Prop, post (kn_b (kf_go oP b_arg tk (if c < 120 then sc c else rs (c - 120)) a b (h - g) h)) (g_made, g_blocks, g_arrivals, g_tip, g_pooled, g_chainLength, b_op, b_arg, b_length, b_ins, b_inCoin, b_inA, b_inB, b_outs, b_amount, b_lock, b_parent, b_work, b_rewardLock, b_height, b_many, b_holds, b_delivered, b_arrived, b_pool, b_chain, b_from, b_worth, b_within, b_spent, st', b_again, b_chosen) → wpY_fits post (g_made, g_blocks, g_arrivals, g_tip, g_pooled, g_chainLength, b_op, b_arg, b_length, b_ins, b_inCoin, b_inA, b_inB, b_outs, b_amount, b_lock, b_parent, b_work, b_rewardLock, b_height, b_many, b_holds, b_delivered, b_arrived, b_pool, b_chain, b_from, b_worth, b_within, b_spent, b_stack, b_again, b_chosen) (nI c) a b h g := by
  have key : ∀ s, s < 8 → ∃ st', ∀ post : Int32 → SY → Prop, post (kn_b (kf_go oP b_arg tk s a b (h - g) h)) (g_made, g_blocks, g_arrivals, g_tip, g_pooled, g_chainLength, b_op, b_arg, b_length, b_ins, b_inCoin, b_inA, b_inB, b_outs, b_amount, b_lock, b_parent, b_work, b_rewardLock, b_height, b_many, b_holds, b_delivered, b_arrived, b_pool, b_chain, b_from, b_worth, b_within, b_spent, st', b_again, b_chosen) → wY_fits_24 post a b h g (nI s) g_made g_blocks g_arrivals g_tip g_pooled g_chainLength b_op b_arg b_length b_ins b_inCoin b_inA b_inB b_outs b_amount b_lock b_parent b_work b_rewardLock b_height b_many b_holds b_delivered b_arrived b_pool b_chain b_from b_worth b_within b_spent b_stack b_again b_chosen := by
    intro s hs
    have tks := kn_l Ht s
    obtain ⟨st', H⟩ := yy_fits50 (g_made := g_made) (g_blocks := g_blocks) (g_arrivals := g_arrivals) (g_tip := g_tip) (g_pooled := g_pooled) (g_chainLength := g_chainLength) (b_op := b_op) (b_arg := b_arg) (b_length := b_length) (b_ins := b_ins) (b_inCoin := b_inCoin) (b_inA := b_inA) (b_inB := b_inB) (b_outs := b_outs) (b_amount := b_amount) (b_lock := b_lock) (b_parent := b_parent) (b_work := b_work) (b_rewardLock := b_rewardLock) (b_height := b_height) (b_many := b_many) (b_holds := b_holds) (b_delivered := b_delivered) (b_arrived := b_arrived) (b_pool := b_pool) (b_chain := b_chain) (b_from := b_from) (b_worth := b_worth) (b_within := b_within) (b_spent := b_spent) (b_again := b_again) (b_chosen := b_chosen) (h := h) (g := g) hs Ht Ho Hk 9 (8 * s) 2 (upd (upd b_stack 0 a) 1 b) (by omega) (by omega) (by omega) (by omega)
    refine ⟨st', fun post hp => nm_e (nm_e (nm_r (kn_m8 s) ⟨9, H post ?_⟩))⟩
    rw [kf_go_junk]
    exact hp
  by_cases z : c < 120
  · rw [if_pos z]
    obtain ⟨st', H⟩ := key (sc c) (kn_l Hs c)
    refine ⟨st', fun post hp => pk_le 120 c (fun y => by omega) (fun y => And.intro (pk_in c 123 (by omega)) ?_)⟩
    rw [kn_at Hs c]; exact H post hp
  · rw [if_neg z]
    obtain ⟨st', H⟩ := key (rs (c - 120)) (kn_l Hr (c - 120))
    have e : nI c - 120 = nI (c - 120) := pk_sub (b := 120) (by omega)
    refine ⟨st', fun post hp => pk_le 120 c (fun y => And.intro (pk_in (c - 120) 33 (by omega) e) ?_) (fun y => by omega)⟩
    rw [kn_at Hr (c - 120) e]; exact H post hp
end
end
section
/-! ===== X: transactions ===== -/
theorem kn_ripe {h q : Nat} (hh : h < 2 ^ 20) (hq : q < 2 ^ 20) : (nI h - nI q ≤ 1) ↔ (nI h - 2 < nI q) := by
  rw [Int32.le_iff_toInt_le, Int32.lt_iff_toInt_lt, pk_sub_toInt (by omega) (by omega), show (2 : Int32) = nI 2 from rfl, pk_sub_toInt (by omega) (by omega), nI_toInt (by omega), show (1 : Int32).toInt = 1 from by decide]
  omega
theorem xx_ripe {post : Int32 → Prop} {c h : Nat} {g : Int32} (hc : c < 152) (hh : h < 2 ^ 20) (hg : g = -1 ∨ ∃ q, q ≤ h ∧ g = nI q) (k1 : ¬ g < 0 → (c < 120 ∨ ¬ nI h - 2 < g) → post 1) (k0 : ¬ (¬ g < 0 ∧ (c < 120 ∨ ¬ nI h - 2 < g)) → post 0) : wpX_ripe post (nI c) g (nI h) := by
  refine br_c (fun z => k0 (fun q => q.1 z)) (fun z => pk_lt c 120 (fun y => k1 z (Or.inl y)) (fun y => ?_))
  rcases hg with e | ⟨q, hq, e⟩
  · exact absurd (kn_neg e) z
  · subst e
    have r := kn_ripe (h := h) (q := q) (by omega) (by omega)
    exact br_c (fun w => k0 (fun v => v.2.elim (fun u => by omega) (fun u => u (r.mp w)))) (fun w => k1 z (Or.inr (fun v => w (r.mpr v))))
section
variable {f_made f_blocks f_arrivals f_top f_many f_agains f_feeNow : Int32} {a_op a_number a_tokens a_used a_timed a_stack a_inCoin a_inA a_inB a_ins a_amount a_script a_outs a_fitting a_parent a_height a_work a_holds a_held a_rewardScript a_reward a_delivered a_arrival a_right a_wrong a_chain a_born a_spent a_since a_row a_fees a_taker a_again a_before : Nat → Int32} {oP tk ic ni nu sc rs nh hd pa he : Nat → Nat} {md bk : Nat}
theorem xx_amountOf {post : Int32 → Prop} {c : Nat} (hc : c < 152) (k : post (kc_av a_amount a_reward c)) : wpX_amountOf post (f_made, f_blocks, f_arrivals, f_top, f_many, f_agains, f_feeNow, a_op, a_number, a_tokens, a_used, a_timed, a_stack, a_inCoin, a_inA, a_inB, a_ins, a_amount, a_script, a_outs, a_fitting, a_parent, a_height, a_work, a_holds, a_held, a_rewardScript, a_reward, a_delivered, a_arrival, a_right, a_wrong, a_chain, a_born, a_spent, a_since, a_row, a_fees, a_taker, a_again, a_before) (nI c) := by
  unfold kc_av at k
  refine pk_le 120 c (fun y => ?_) (fun y => And.intro (pk_in c 123 (by omega)) ?_)
  · have e : nI c - 120 = nI (c - 120) := pk_sub (b := 120) y
    refine And.intro (pk_in (c - 120) 32 (by omega) e) ?_
    rw [pk_cl (c - 120) e]
    rw [if_neg (by omega)] at k; exact k
  · rw [nI_clamp (by omega)]
    rw [if_pos (by omega)] at k; exact k
theorem xx_scriptOf {post : Int32 → Prop} {c : Nat} (hc : c < 152) (D : kx_D a_op a_number a_tokens a_timed a_inCoin a_ins a_outs a_script a_rewardScript a_holds a_held a_parent a_height oP tk ic ni nu sc rs nh hd pa he) (k : post (nI (kx_s sc rs c))) : wpX_scriptOf post (f_made, f_blocks, f_arrivals, f_top, f_many, f_agains, f_feeNow, a_op, a_number, a_tokens, a_used, a_timed, a_stack, a_inCoin, a_inA, a_inB, a_ins, a_amount, a_script, a_outs, a_fitting, a_parent, a_height, a_work, a_holds, a_held, a_rewardScript, a_reward, a_delivered, a_arrival, a_right, a_wrong, a_chain, a_born, a_spent, a_since, a_row, a_fees, a_taker, a_again, a_before) (nI c) := by
  unfold kx_s at k
  refine pk_le 120 c (fun y => ?_) (fun y => And.intro (pk_in c 123 (by omega)) ?_)
  · have e : nI c - 120 = nI (c - 120) := pk_sub (b := 120) y
    refine And.intro (pk_in (c - 120) 32 (by omega) e) ?_
    rw [kn_at (dx_rs D) (c - 120) e]
    rw [if_neg (by omega)] at k; exact k
  · rw [kn_at (dx_sc D) c]
    rw [if_pos (by omega)] at k; exact k
theorem xx_opens {i : Nat} {g h : Int32} (hi : i < 120) (hm : ∃ t, t < md ∧ 3 * t ≤ i ∧ i < 3 * t + ni t) (D : kx_D a_op a_number a_tokens a_timed a_inCoin a_ins a_outs a_script a_rewardScript a_holds a_held a_parent a_height oP tk ic ni nu sc rs nh hd pa he) (C : kf_C md ni a_timed (fun i => kx_s sc rs (ic i)) (kf_fit oP a_number tk ic a_inA a_inB sc rs) a_fitting) :
    ∃ st' fi', kf_C md ni a_timed (fun i => kx_s sc rs (ic i)) (kf_fit oP a_number tk ic a_inA a_inB sc rs) fi' ∧ ∀ post : Int32 → SX → Prop, post (kn_b ((kf_fit oP a_number tk ic a_inA a_inB sc rs) i g h)) (f_made, f_blocks, f_arrivals, f_top, f_many, f_agains, f_feeNow, a_op, a_number, a_tokens, a_used, a_timed, st', a_inCoin, a_inA, a_inB, a_ins, a_amount, a_script, a_outs, fi', a_parent, a_height, a_work, a_holds, a_held, a_rewardScript, a_reward, a_delivered, a_arrival, a_right, a_wrong, a_chain, a_born, a_spent, a_since, a_row, a_fees, a_taker, a_again, a_before) → wpX_opens post (f_made, f_blocks, f_arrivals, f_top, f_many, f_agains, f_feeNow, a_op, a_number, a_tokens, a_used, a_timed, a_stack, a_inCoin, a_inA, a_inB, a_ins, a_amount, a_script, a_outs, a_fitting, a_parent, a_height, a_work, a_holds, a_held, a_rewardScript, a_reward, a_delivered, a_arrival, a_right, a_wrong, a_chain, a_born, a_spent, a_since, a_row, a_fees, a_taker, a_again, a_before) (nI i) g h := by
  have ic1 : ic i < 152 := kn_l (dx_ic D) i
  have s8 : kx_s sc rs (ic i) < 8 := kx_s8 (kn_l (dx_sc D)) (kn_l (dx_rs D)) _
  have ei : (nI i).toNatClampNeg = i := nI_clamp (by omega)
  obtain ⟨st, H⟩ := xx_fits (f_made := f_made) (f_blocks := f_blocks) (f_arrivals := f_arrivals) (f_top := f_top) (f_many := f_many) (f_agains := f_agains) (f_feeNow := f_feeNow) (a_op := a_op) (a_number := a_number) (a_tokens := a_tokens) (a_used := a_used) (a_timed := a_timed) (a_stack := a_stack) (a_inCoin := a_inCoin) (a_inA := a_inA) (a_inB := a_inB) (a_ins := a_ins) (a_amount := a_amount) (a_script := a_script) (a_outs := a_outs) (a_fitting := a_fitting) (a_parent := a_parent) (a_height := a_height) (a_work := a_work) (a_holds := a_holds) (a_held := a_held) (a_rewardScript := a_rewardScript) (a_reward := a_reward) (a_delivered := a_delivered) (a_arrival := a_arrival) (a_right := a_right) (a_wrong := a_wrong) (a_chain := a_chain) (a_born := a_born) (a_spent := a_spent) (a_since := a_since) (a_row := a_row) (a_fees := a_fees) (a_taker := a_taker) (a_again := a_again) (a_before := a_before) (age := h - g) (h := h) s8 (show i < 123 by omega) (dx_tk D) (dx_op D) (dx_sk D)
  have v2 : vp_nar .byte ((2 : Int32).toInt8.toInt32) = 2 := kn_vb2 2
  have v1 : vp_nar .byte ((1 : Int32).toInt8.toInt32) = 1 := kn_vb2 1
  -- the answer does not hang on g and h where the script is not timed
  have un : a_timed (kx_s sc rs (ic i)) = 0 → ∀ g' h', (kf_fit oP a_number tk ic a_inA a_inB sc rs) i g' h' = (kf_fit oP a_number tk ic a_inA a_inB sc rs) i g h := by
    intro z g' h'
    refine kf_go_cg rfl (fun k h1 h2 => ⟨rfl, rfl, fun q => ?_⟩)
    have := dx_tm D _ s8 z k h1 h2
    exact absurd q (fun q => q.elim this.1 this.2)
  have enter : ∀ (post : Int32 → SX → Prop), wX_opens_51 post (nI i) g h (nI (kx_s sc rs (ic i))) f_made f_blocks f_arrivals f_top f_many f_agains f_feeNow a_op a_number a_tokens a_used a_timed a_stack a_inCoin a_inA a_inB a_ins a_amount a_script a_outs a_fitting a_parent a_height a_work a_holds a_held a_rewardScript a_reward a_delivered a_arrival a_right a_wrong a_chain a_born a_spent a_since a_row a_fees a_taker a_again a_before → (a_timed (kx_s sc rs (ic i)) = 0 → a_fitting i ≤ 0) → wpX_opens post (f_made, f_blocks, f_arrivals, f_top, f_many, f_agains, f_feeNow, a_op, a_number, a_tokens, a_used, a_timed, a_stack, a_inCoin, a_inA, a_inB, a_ins, a_amount, a_script, a_outs, a_fitting, a_parent, a_height, a_work, a_holds, a_held, a_rewardScript, a_reward, a_delivered, a_arrival, a_right, a_wrong, a_chain, a_born, a_spent, a_since, a_row, a_fees, a_taker, a_again, a_before) (nI i) g h := by
    intro post W z
    refine And.intro (pk_in i 123 (by omega)) (nm_r (kn_at (dx_ic D) i) ?_)
    refine xx_scriptOf ic1 D (And.intro (pk_in _ 8 s8) ?_)
    rw [nI_clamp (by omega)]
    refine br_c (fun y => And.intro (pk_in i 120 hi) ?_) (fun y => W)
    rw [ei]
    exact br_t (z y) W
  have upC : ∀ v : Int32, (a_timed (kx_s sc rs (ic i)) = 0 → (v = 1 ∧ ∀ g h, (kf_fit oP a_number tk ic a_inA a_inB sc rs) i g h = true) ∨ (v = 2 ∧ ∀ g h, (kf_fit oP a_number tk ic a_inA a_inB sc rs) i g h = false)) → kf_C md ni a_timed (fun i => kx_s sc rs (ic i)) (kf_fit oP a_number tk ic a_inA a_inB sc rs) (upd a_fitting i v) := by
    intro v hv j
    by_cases e : j = i
    · subst e
      rw [pk_us]
      exact ⟨fun z => by obtain ⟨t, h1, h2⟩ := hm; exact absurd h2 (z t h1), fun z => Or.inr (hv z)⟩
    · rw [pk_un e]; exact C j
  have run : ∃ st' fi', kf_C md ni a_timed (fun i => kx_s sc rs (ic i)) (kf_fit oP a_number tk ic a_inA a_inB sc rs) fi' ∧ ∀ post : Int32 → SX → Prop, post (kn_b ((kf_fit oP a_number tk ic a_inA a_inB sc rs) i g h)) (f_made, f_blocks, f_arrivals, f_top, f_many, f_agains, f_feeNow, a_op, a_number, a_tokens, a_used, a_timed, st', a_inCoin, a_inA, a_inB, a_ins, a_amount, a_script, a_outs, fi', a_parent, a_height, a_work, a_holds, a_held, a_rewardScript, a_reward, a_delivered, a_arrival, a_right, a_wrong, a_chain, a_born, a_spent, a_since, a_row, a_fees, a_taker, a_again, a_before) → wX_opens_51 post (nI i) g h (nI (kx_s sc rs (ic i))) f_made f_blocks f_arrivals f_top f_many f_agains f_feeNow a_op a_number a_tokens a_used a_timed a_stack a_inCoin a_inA a_inB a_ins a_amount a_script a_outs a_fitting a_parent a_height a_work a_holds a_held a_rewardScript a_reward a_delivered a_arrival a_right a_wrong a_chain a_born a_spent a_since a_row a_fees a_taker a_again a_before := by
    cases r : (kf_fit oP a_number tk ic a_inA a_inB sc rs) i g h with
    | false =>
      refine ⟨st, upd a_fitting i 2, upC 2 (fun z => Or.inr ⟨rfl, fun g' h' => (un z g' h').trans r⟩), fun post hp => ?_⟩
      unfold wX_opens_51
      refine H _ ?_
      have r' : kf_go oP a_number tk (kx_s sc rs (ic i)) (a_inA i) (a_inB i) (h - g) h = false := r
      rw [r']
      exact br_t rfl (And.intro (pk_in i 120 hi) (nm_r (kn_uv i v2) (And.intro narrow_b0 hp)))
    | true =>
      refine ⟨st, upd a_fitting i 1, upC 1 (fun z => Or.inl ⟨rfl, fun g' h' => (un z g' h').trans r⟩), fun post hp => ?_⟩
      unfold wX_opens_51
      refine H _ ?_
      have r' : kf_go oP a_number tk (kx_s sc rs (ic i)) (a_inA i) (a_inB i) (h - g) h = true := r
      rw [r']
      exact br_f kn_10 (And.intro (pk_in i 120 hi) (nm_r (kn_uv i v1) (And.intro narrow_b1 hp)))
  obtain ⟨st', fi', C', R⟩ := run
  by_cases tz : a_timed (kx_s sc rs (ic i)) = 0
  · rcases (C i).2 tz with z | ⟨z, w⟩ | ⟨z, w⟩
    · exact ⟨st', fi', C', fun post hp => enter post (R post hp) (fun _ => by rw [z]; decide)⟩
    · refine ⟨a_stack, a_fitting, C, fun post hp => ?_⟩
      rw [w g h] at hp
      refine And.intro (pk_in i 123 (by omega)) (nm_r (kn_at (dx_ic D) i) ?_)
      refine xx_scriptOf ic1 D (And.intro (pk_in _ 8 s8) ?_)
      rw [nI_clamp (by omega), ei, z]
      exact br_t tz (And.intro (pk_in i 120 hi) (br_f (by decide) (And.intro (pk_in i 120 hi) (br_t rfl hp))))
    · refine ⟨a_stack, a_fitting, C, fun post hp => ?_⟩
      rw [w g h] at hp
      refine And.intro (pk_in i 123 (by omega)) (nm_r (kn_at (dx_ic D) i) ?_)
      refine xx_scriptOf ic1 D (And.intro (pk_in _ 8 s8) ?_)
      rw [nI_clamp (by omega), ei, z]
      exact br_t tz (And.intro (pk_in i 120 hi) (br_f (by decide) (And.intro (pk_in i 120 hi) (br_f (by decide) hp))))
  · exact ⟨st', fi', C', fun post hp => enter post (R post hp) (fun z => absurd z tz)⟩
theorem xx_un47 {post : SX → Prop} {t : Nat} (ht : t < 40) (D : kx_D a_op a_number a_tokens a_timed a_inCoin a_ins a_outs a_script a_rewardScript a_holds a_held a_parent a_height oP tk ic ni nu sc rs nh hd pa he) : ∀ (m i : Nat) (f : Nat → Int32) (n : Nat), i + m = 3 * t + nu t → m < n → post (f_made, f_blocks, f_arrivals, f_top, f_many, f_agains, f_feeNow, a_op, a_number, a_tokens, a_used, a_timed, a_stack, a_inCoin, a_inA, a_inB, a_ins, a_amount, a_script, a_outs, a_fitting, a_parent, a_height, a_work, a_holds, a_held, a_rewardScript, a_reward, a_delivered, a_arrival, a_right, a_wrong, a_chain, kc_sg (fun j => j) (fun _ => -1) m i f, a_spent, a_since, a_row, a_fees, a_taker, a_again, a_before) → wX_unspend_47 post (nI t) f_made f_blocks f_arrivals f_top f_many f_agains f_feeNow n (nI i) a_op a_number a_tokens a_used a_timed a_stack a_inCoin a_inA a_inB a_ins a_amount a_script a_outs a_fitting a_parent a_height a_work a_holds a_held a_rewardScript a_reward a_delivered a_arrival a_right a_wrong a_chain f a_spent a_since a_row a_fees a_taker a_again a_before := by
  have d := kn_l (dx_nu D) t
  intro m
  induction m with
  | zero =>
    intro i f n e hn hp
    obtain ⟨n, rfl⟩ : ∃ n', n = n' + 1 := ⟨n - 1, by omega⟩
    exact And.intro (pk_in t 41 (by omega)) (pk_le (3 * t + nu t) i (fun _ => hp) (fun z => by omega) (kn_e3 (dx_nu D) t))
  | succ m ih =>
    intro i f n e hn hp
    obtain ⟨n, rfl⟩ : ∃ n', n = n' + 1 := ⟨n - 1, by omega⟩
    exact And.intro (pk_in t 41 (by omega)) (pk_le (3 * t + nu t) i (fun _ => by omega) (fun z => And.intro (pk_in i 152 (by omega)) (nm_r (kn_uv i kn_vm1) (nm_r (nI_1 i) (ih (i + 1) _ n (by omega) (by omega) hp)))) (kn_e3 (dx_nu D) t))
theorem xx_un11 {post : SX → Prop} {t : Nat} (ht : t < 40) (D : kx_D a_op a_number a_tokens a_timed a_inCoin a_ins a_outs a_script a_rewardScript a_holds a_held a_parent a_height oP tk ic ni nu sc rs nh hd pa he) : ∀ (m i : Nat) (f : Nat → Int32) (n : Nat), i + m = 3 * t + ni t → m < n → post (f_made, f_blocks, f_arrivals, f_top, f_many, f_agains, f_feeNow, a_op, a_number, a_tokens, a_used, a_timed, a_stack, a_inCoin, a_inA, a_inB, a_ins, a_amount, a_script, a_outs, a_fitting, a_parent, a_height, a_work, a_holds, a_held, a_rewardScript, a_reward, a_delivered, a_arrival, a_right, a_wrong, a_chain, kc_sg (fun j => j) (fun _ => -1) (nu t) (3 * t) a_born, kc_sg ic (fun _ => 0) m i f, a_since, a_row, a_fees, a_taker, a_again, a_before) → wX_unspend_11 post (nI t) f_made f_blocks f_arrivals f_top f_many f_agains f_feeNow n (nI i) a_op a_number a_tokens a_used a_timed a_stack a_inCoin a_inA a_inB a_ins a_amount a_script a_outs a_fitting a_parent a_height a_work a_holds a_held a_rewardScript a_reward a_delivered a_arrival a_right a_wrong a_chain a_born f a_since a_row a_fees a_taker a_again a_before := by
  have d := kn_l (dx_ni D) t
  intro m
  induction m with
  | zero =>
    intro i f n e hn hp
    obtain ⟨n, rfl⟩ : ∃ n', n = n' + 1 := ⟨n - 1, by omega⟩
    exact And.intro (pk_in t 41 (by omega)) (pk_le (3 * t + ni t) i (fun _ => nm_r (kn_m3 t) ⟨nu t + 1, xx_un47 ht D (nu t) (3 * t) a_born _ rfl (by omega) hp⟩) (fun z => by omega) (kn_e3 (dx_ni D) t))
  | succ m ih =>
    intro i f n e hn hp
    obtain ⟨n, rfl⟩ : ∃ n', n = n' + 1 := ⟨n - 1, by omega⟩
    have c := kn_at (dx_ic D) i
    have cl := kn_l (dx_ic D) i
    exact And.intro (pk_in t 41 (by omega)) (pk_le (3 * t + ni t) i (fun _ => by omega) (fun z => And.intro (pk_in i 123 (by omega)) (And.intro (pk_in (ic i) 152 cl c) (nm_r (kn_uv (ic i) kn_v0 c) (nm_r (nI_1 i) (ih (i + 1) _ n (by omega) (by omega) hp))))) (kn_e3 (dx_ni D) t))
theorem xx_unspend {post : SX → Prop} {t : Nat} (ht : t < 40) (D : kx_D a_op a_number a_tokens a_timed a_inCoin a_ins a_outs a_script a_rewardScript a_holds a_held a_parent a_height oP tk ic ni nu sc rs nh hd pa he) (k : post (f_made, f_blocks, f_arrivals, f_top, f_many, f_agains, f_feeNow, a_op, a_number, a_tokens, a_used, a_timed, a_stack, a_inCoin, a_inA, a_inB, a_ins, a_amount, a_script, a_outs, a_fitting, a_parent, a_height, a_work, a_holds, a_held, a_rewardScript, a_reward, a_delivered, a_arrival, a_right, a_wrong, a_chain, kc_sg (fun j => j) (fun _ => -1) (nu t) (3 * t) a_born, kc_sg ic (fun _ => 0) (ni t) (3 * t) a_spent, upd a_since t (-1), a_row, a_fees, a_taker, a_again, a_before)) : wpX_unspend post (f_made, f_blocks, f_arrivals, f_top, f_many, f_agains, f_feeNow, a_op, a_number, a_tokens, a_used, a_timed, a_stack, a_inCoin, a_inA, a_inB, a_ins, a_amount, a_script, a_outs, a_fitting, a_parent, a_height, a_work, a_holds, a_held, a_rewardScript, a_reward, a_delivered, a_arrival, a_right, a_wrong, a_chain, a_born, a_spent, a_since, a_row, a_fees, a_taker, a_again, a_before) (nI t) :=
  And.intro (pk_in t 40 ht) (nm_r (kn_uv t kn_vm1) (nm_r (kn_m3 t) ⟨ni t + 1, xx_un11 ht D (ni t) (3 * t) a_spent _ rfl (by omega) k⟩))
theorem xx_sp203 {post : Int32 → SX → Prop} {t h : Nat} (ht : t < 40) (hh : h < 100) (D : kx_D a_op a_number a_tokens a_timed a_inCoin a_ins a_outs a_script a_rewardScript a_holds a_held a_parent a_height oP tk ic ni nu sc rs nh hd pa he) : ∀ (m i : Nat) (f : Nat → Int32) (n : Nat), i + m = 3 * t + nu t → m < n → post 1 (f_made, f_blocks, f_arrivals, f_top, f_many, f_agains, f_feeNow, a_op, a_number, a_tokens, a_used, a_timed, a_stack, a_inCoin, a_inA, a_inB, a_ins, a_amount, a_script, a_outs, a_fitting, a_parent, a_height, a_work, a_holds, a_held, a_rewardScript, a_reward, a_delivered, a_arrival, a_right, a_wrong, a_chain, kc_sg (fun j => j) (fun _ => nI h) m i f, a_spent, a_since, a_row, a_fees, a_taker, a_again, a_before) → wX_spends_203 post (nI t) (nI h) f_made f_blocks f_arrivals f_top f_many f_agains f_feeNow n (nI i) a_op a_number a_tokens a_used a_timed a_stack a_inCoin a_inA a_inB a_ins a_amount a_script a_outs a_fitting a_parent a_height a_work a_holds a_held a_rewardScript a_reward a_delivered a_arrival a_right a_wrong a_chain f a_spent a_since a_row a_fees a_taker a_again a_before := by
  have d := kn_l (dx_nu D) t
  intro m
  induction m with
  | zero =>
    intro i f n e hn hp
    obtain ⟨n, rfl⟩ : ∃ n', n = n' + 1 := ⟨n - 1, by omega⟩
    exact And.intro (pk_in t 41 (by omega)) (pk_le (3 * t + nu t) i (fun _ => hp) (fun z => by omega) (kn_e3 (dx_nu D) t))
  | succ m ih =>
    intro i f n e hn hp
    obtain ⟨n, rfl⟩ : ∃ n', n = n' + 1 := ⟨n - 1, by omega⟩
    exact And.intro (pk_in t 41 (by omega)) (pk_le (3 * t + nu t) i (fun _ => by omega) (fun z => And.intro (pk_in i 152 (by omega)) (nm_r (kn_uv i (kn_vb2 h)) (nm_r (nI_1 i) (ih (i + 1) _ n (by omega) (by omega) hp)))) (kn_e3 (dx_nu D) t))
theorem xx_sp167 {post : Int32 → SX → Prop} {t h : Nat} (ht : t < 40) (hh : h < 100) (D : kx_D a_op a_number a_tokens a_timed a_inCoin a_ins a_outs a_script a_rewardScript a_holds a_held a_parent a_height oP tk ic ni nu sc rs nh hd pa he) : ∀ (m i : Nat) (f : Nat → Int32) (n : Nat), i + m = 3 * t + ni t → m < n → post 1 (f_made, f_blocks, f_arrivals, f_top, f_many, f_agains, f_feeNow, a_op, a_number, a_tokens, a_used, a_timed, a_stack, a_inCoin, a_inA, a_inB, a_ins, a_amount, a_script, a_outs, a_fitting, a_parent, a_height, a_work, a_holds, a_held, a_rewardScript, a_reward, a_delivered, a_arrival, a_right, a_wrong, a_chain, kc_sg (fun j => j) (fun _ => nI h) (nu t) (3 * t) a_born, kc_sg ic (fun _ => 1) m i f, a_since, a_row, a_fees, a_taker, a_again, a_before) → wX_spends_167 post (nI t) (nI h) f_made f_blocks f_arrivals f_top f_many f_agains f_feeNow n (nI i) a_op a_number a_tokens a_used a_timed a_stack a_inCoin a_inA a_inB a_ins a_amount a_script a_outs a_fitting a_parent a_height a_work a_holds a_held a_rewardScript a_reward a_delivered a_arrival a_right a_wrong a_chain a_born f a_since a_row a_fees a_taker a_again a_before := by
  have d := kn_l (dx_ni D) t
  intro m
  induction m with
  | zero =>
    intro i f n e hn hp
    obtain ⟨n, rfl⟩ : ∃ n', n = n' + 1 := ⟨n - 1, by omega⟩
    exact And.intro (pk_in t 41 (by omega)) (pk_le (3 * t + ni t) i (fun _ => nm_r (kn_m3 t) ⟨nu t + 1, xx_sp203 ht hh D (nu t) (3 * t) a_born _ rfl (by omega) hp⟩) (fun z => by omega) (kn_e3 (dx_ni D) t))
  | succ m ih =>
    intro i f n e hn hp
    obtain ⟨n, rfl⟩ : ∃ n', n = n' + 1 := ⟨n - 1, by omega⟩
    have c := kn_at (dx_ic D) i
    have cl := kn_l (dx_ic D) i
    exact And.intro (pk_in t 41 (by omega)) (pk_le (3 * t + ni t) i (fun _ => by omega) (fun z => And.intro (pk_in i 123 (by omega)) (And.intro (pk_in (ic i) 152 cl c) (nm_r (kn_uv (ic i) kn_v1 c) (nm_r (nI_1 i) (ih (i + 1) _ n (by omega) (by omega) hp))))) (kn_e3 (dx_ni D) t))
theorem xx_sp111 {post : Int32 → SX → Prop} {t h : Nat} (ht : t < 40) (hh : h < 100) (D : kx_D a_op a_number a_tokens a_timed a_inCoin a_ins a_outs a_script a_rewardScript a_holds a_held a_parent a_height oP tk ic ni nu sc rs nh hd pa he) : ∀ (m i : Nat) (fe : Int32) (n : Nat), i + m = 3 * t + nu t → m < n →
    (0 ≤ kc_sub a_amount m i fe → post 1 (f_made, f_blocks, f_arrivals, f_top, f_many, f_agains, kc_sub a_amount m i fe, a_op, a_number, a_tokens, a_used, a_timed, a_stack, a_inCoin, a_inA, a_inB, a_ins, a_amount, a_script, a_outs, a_fitting, a_parent, a_height, a_work, a_holds, a_held, a_rewardScript, a_reward, a_delivered, a_arrival, a_right, a_wrong, a_chain, kc_sg (fun j => j) (fun _ => nI h) (nu t) (3 * t) a_born, kc_sg ic (fun _ => 1) (ni t) (3 * t) a_spent, upd a_since t (nI h), a_row, a_fees, a_taker, a_again, a_before)) →
    (¬ 0 ≤ kc_sub a_amount m i fe → post 0 (f_made, f_blocks, f_arrivals, f_top, f_many, f_agains, kc_sub a_amount m i fe, a_op, a_number, a_tokens, a_used, a_timed, a_stack, a_inCoin, a_inA, a_inB, a_ins, a_amount, a_script, a_outs, a_fitting, a_parent, a_height, a_work, a_holds, a_held, a_rewardScript, a_reward, a_delivered, a_arrival, a_right, a_wrong, a_chain, a_born, a_spent, a_since, a_row, a_fees, a_taker, a_again, a_before)) → wX_spends_111 post (nI t) (nI h) f_made f_blocks f_arrivals f_top f_many f_agains a_op a_number a_tokens a_used a_timed a_stack a_inCoin a_inA a_inB a_ins a_amount a_script a_outs a_fitting a_parent a_height a_work a_holds a_held a_rewardScript a_reward a_delivered a_arrival a_right a_wrong a_chain a_born a_spent a_since a_row a_fees a_taker a_again a_before n (nI i) fe := by
  have d := kn_l (dx_nu D) t
  intro m
  induction m with
  | zero =>
    intro i fe n e hn h1 h0
    obtain ⟨n, rfl⟩ : ∃ n', n = n' + 1 := ⟨n - 1, by omega⟩
    exact And.intro (pk_in t 41 (by omega)) (pk_le (3 * t + nu t) i (fun _ => br_c (fun z => And.intro (pk_in t 40 ht) (nm_r (kn_uv t (kn_vb2 h)) (nm_r (kn_m3 t) ⟨ni t + 1, xx_sp167 ht hh D (ni t) (3 * t) a_spent _ rfl (by omega) (h1 z)⟩))) (fun z => h0 z)) (fun z => by omega) (kn_e3 (dx_nu D) t))
  | succ m ih =>
    intro i fe n e hn h1 h0
    obtain ⟨n, rfl⟩ : ∃ n', n = n' + 1 := ⟨n - 1, by omega⟩
    refine And.intro (pk_in t 41 (by omega)) (pk_le (3 * t + nu t) i (fun _ => by omega) (fun z => And.intro (pk_in i 123 (by omega)) (nm_r (e' := fe - a_amount i) (by rw [nI_clamp (by omega)]) (nm_r (nI_1 i) (ih (i + 1) _ n (by omega) (by omega) h1 h0)))) (kn_e3 (dx_nu D) t))
end
section
variable {f_made f_blocks f_arrivals f_top f_many f_agains : Int32} {a_op a_number a_tokens a_used a_timed a_inCoin a_inA a_inB a_ins a_amount a_script a_outs a_parent a_height a_work a_holds a_held a_rewardScript a_reward a_delivered a_arrival a_right a_wrong a_chain a_row a_fees a_taker a_again a_before : Nat → Int32} {oP tk ic ni nu sc rs nh hd pa he : Nat → Nat} {md bk : Nat} {K : kc_K}
/-- the inputs, one behind another -/
theorem xx_sp20 {t h : Nat} (ht : t < 40) (hm : t < md) (hh : h < 100) (D : kx_D a_op a_number a_tokens a_timed a_inCoin a_ins a_outs a_script a_rewardScript a_holds a_held a_parent a_height oP tk ic ni nu sc rs nh hd pa he) (I : kc_I he h K) :
    ∀ (m i : Nat) (fe : Int32) (st fi : Nat → Int32), i + m = 3 * t + ni t → 3 * t ≤ i → kf_C md ni a_timed (fun i => kx_s sc rs (ic i)) (kf_fit oP a_number tk ic a_inA a_inB sc rs) fi → ∃ fe' st' fi', kf_C md ni a_timed (fun i => kx_s sc rs (ic i)) (kf_fit oP a_number tk ic a_inA a_inB sc rs) fi' ∧
    ((∀ j, i ≤ j → j < i + m → kc_ok1 ic (kf_fit oP a_number tk ic a_inA a_inB sc rs) h K.1 K.2.1 j) → fe' = kc_sum (fun j => kc_av a_amount a_reward (ic j)) m i fe ∧ ∀ post : Int32 → SX → Prop, (∃ n, wX_spends_111 post (nI t) (nI h) f_made f_blocks f_arrivals f_top f_many f_agains a_op a_number a_tokens a_used a_timed st' a_inCoin a_inA a_inB a_ins a_amount a_script a_outs fi' a_parent a_height a_work a_holds a_held a_rewardScript a_reward a_delivered a_arrival a_right a_wrong a_chain K.1 K.2.1 K.2.2.1 a_row a_fees a_taker a_again a_before n (nI (3 * t)) fe') → ∀ n, m < n → wX_spends_20 post (nI t) (nI h) n (nI i) f_made f_blocks f_arrivals f_top f_many f_agains fe a_op a_number a_tokens a_used a_timed st a_inCoin a_inA a_inB a_ins a_amount a_script a_outs fi a_parent a_height a_work a_holds a_held a_rewardScript a_reward a_delivered a_arrival a_right a_wrong a_chain K.1 K.2.1 K.2.2.1 a_row a_fees a_taker a_again a_before) ∧
    (¬ (∀ j, i ≤ j → j < i + m → kc_ok1 ic (kf_fit oP a_number tk ic a_inA a_inB sc rs) h K.1 K.2.1 j) → ∀ post : Int32 → SX → Prop, post 0 (f_made, f_blocks, f_arrivals, f_top, f_many, f_agains, fe', a_op, a_number, a_tokens, a_used, a_timed, st', a_inCoin, a_inA, a_inB, a_ins, a_amount, a_script, a_outs, fi', a_parent, a_height, a_work, a_holds, a_held, a_rewardScript, a_reward, a_delivered, a_arrival, a_right, a_wrong, a_chain, K.1, K.2.1, K.2.2.1, a_row, a_fees, a_taker, a_again, a_before) → ∀ n, m < n → wX_spends_20 post (nI t) (nI h) n (nI i) f_made f_blocks f_arrivals f_top f_many f_agains fe a_op a_number a_tokens a_used a_timed st a_inCoin a_inA a_inB a_ins a_amount a_script a_outs fi a_parent a_height a_work a_holds a_held a_rewardScript a_reward a_delivered a_arrival a_right a_wrong a_chain K.1 K.2.1 K.2.2.1 a_row a_fees a_taker a_again a_before) := by
  have d := kn_l (dx_ni D) t
  intro m
  induction m with
  | zero =>
    intro i fe st fi e h3 C
    refine ⟨fe, st, fi, C, fun _ => ⟨rfl, fun post W n hn => ?_⟩, fun z => absurd (fun j h1 h2 => by omega) z⟩
    obtain ⟨n, rfl⟩ : ∃ n', n = n' + 1 := ⟨n - 1, by omega⟩
    exact And.intro (pk_in t 41 (by omega)) (pk_le (3 * t + ni t) i (fun _ => nm_r (kn_m3 t) W) (fun z => by omega) (kn_e3 (dx_ni D) t))
  | succ m ih =>
    intro i fe st fi e h3 C
    have c := kn_at (dx_ic D) i
    have cl := kn_l (dx_ic D) i
    have ecl : (nI (ic i)).toNatClampNeg = ic i := nI_clamp (by omega)
    obtain ⟨st1, fi1, C1, O1⟩ := xx_opens (f_made := f_made) (f_blocks := f_blocks) (f_arrivals := f_arrivals) (f_top := f_top) (f_many := f_many) (f_agains := f_agains) (f_feeNow := fe) (a_op := a_op) (a_number := a_number) (a_tokens := a_tokens) (a_used := a_used) (a_timed := a_timed) (a_stack := st) (a_inCoin := a_inCoin) (a_inA := a_inA) (a_inB := a_inB) (a_ins := a_ins) (a_amount := a_amount) (a_script := a_script) (a_outs := a_outs) (a_fitting := fi) (a_parent := a_parent) (a_height := a_height) (a_work := a_work) (a_holds := a_holds) (a_held := a_held) (a_rewardScript := a_rewardScript) (a_reward := a_reward) (a_delivered := a_delivered) (a_arrival := a_arrival) (a_right := a_right) (a_wrong := a_wrong) (a_chain := a_chain) (a_born := K.1) (a_spent := K.2.1) (a_since := K.2.2.1) (a_row := a_row) (a_fees := a_fees) (a_taker := a_taker) (a_again := a_again) (a_before := a_before) (g := K.1 (ic i)) (h := nI h) (show i < 120 by omega) ⟨t, hm, h3, by omega⟩ D C
    obtain ⟨fe', st', fi', C', R1, R0⟩ := ih (i + 1) (fe + kc_av a_amount a_reward (ic i)) st1 fi1 (by omega) (by omega) C1
    -- one round
    have rnd : ∀ (post : Int32 → SX → Prop) (n : Nat),
        (¬ (¬ K.1 (ic i) < 0 ∧ K.2.1 (ic i) = 0 ∧ (ic i < 120 ∨ ¬ nI h - 2 < K.1 (ic i))) → post 0 (f_made, f_blocks, f_arrivals, f_top, f_many, f_agains, fe, a_op, a_number, a_tokens, a_used, a_timed, st, a_inCoin, a_inA, a_inB, a_ins, a_amount, a_script, a_outs, fi, a_parent, a_height, a_work, a_holds, a_held, a_rewardScript, a_reward, a_delivered, a_arrival, a_right, a_wrong, a_chain, K.1, K.2.1, K.2.2.1, a_row, a_fees, a_taker, a_again, a_before)) →
        (¬ K.1 (ic i) < 0 ∧ K.2.1 (ic i) = 0 ∧ (ic i < 120 ∨ ¬ nI h - 2 < K.1 (ic i)) → (kf_fit oP a_number tk ic a_inA a_inB sc rs) i (K.1 (ic i)) (nI h) = false → post 0 (f_made, f_blocks, f_arrivals, f_top, f_many, f_agains, fe, a_op, a_number, a_tokens, a_used, a_timed, st1, a_inCoin, a_inA, a_inB, a_ins, a_amount, a_script, a_outs, fi1, a_parent, a_height, a_work, a_holds, a_held, a_rewardScript, a_reward, a_delivered, a_arrival, a_right, a_wrong, a_chain, K.1, K.2.1, K.2.2.1, a_row, a_fees, a_taker, a_again, a_before)) →
        (kc_ok1 ic (kf_fit oP a_number tk ic a_inA a_inB sc rs) h K.1 K.2.1 i → wX_spends_20 post (nI t) (nI h) n (nI (i + 1)) f_made f_blocks f_arrivals f_top f_many f_agains (fe + kc_av a_amount a_reward (ic i)) a_op a_number a_tokens a_used a_timed st1 a_inCoin a_inA a_inB a_ins a_amount a_script a_outs fi1 a_parent a_height a_work a_holds a_held a_rewardScript a_reward a_delivered a_arrival a_right a_wrong a_chain K.1 K.2.1 K.2.2.1 a_row a_fees a_taker a_again a_before) →
        wX_spends_20 post (nI t) (nI h) (n + 1) (nI i) f_made f_blocks f_arrivals f_top f_many f_agains fe a_op a_number a_tokens a_used a_timed st a_inCoin a_inA a_inB a_ins a_amount a_script a_outs fi a_parent a_height a_work a_holds a_held a_rewardScript a_reward a_delivered a_arrival a_right a_wrong a_chain K.1 K.2.1 K.2.2.1 a_row a_fees a_taker a_again a_before := by
      intro post n k0 k1 k2
      refine And.intro (pk_in t 41 (by omega)) (pk_le (3 * t + ni t) i (fun _ => by omega) (fun z => And.intro (pk_in i 123 (by omega)) (nm_r c (And.intro (pk_in (ic i) 152 cl) ?_))) (kn_e3 (dx_ni D) t))
      rw [ecl]
      refine xx_ripe cl (by omega) (I.1 _ cl) (fun g0 gr => br_f kn_10 (And.intro (pk_in (ic i) 152 cl) (br_c (fun s0 => And.intro (pk_in (ic i) 152 cl) ?_) (fun s0 => k0 (fun q => s0 q.2.1))))) (fun z => br_t rfl (k0 (fun q => z ⟨q.1, q.2.2⟩)))
      refine O1 _ ?_
      cases r : (kf_fit oP a_number tk ic a_inA a_inB sc rs) i (K.1 (ic i)) (nI h) with
      | false => exact br_t rfl (k1 ⟨g0, s0, gr⟩ r)
      | true =>
        refine br_f kn_10 (xx_amountOf cl (nm_e (nm_r (nI_1 i) (k2 ⟨g0, s0, gr, r⟩))))
    by_cases p : ¬ K.1 (ic i) < 0 ∧ K.2.1 (ic i) = 0 ∧ (ic i < 120 ∨ ¬ nI h - 2 < K.1 (ic i))
    · cases r : (kf_fit oP a_number tk ic a_inA a_inB sc rs) i (K.1 (ic i)) (nI h) with
      | false =>
        have nok : ¬ kc_ok1 ic (kf_fit oP a_number tk ic a_inA a_inB sc rs) h K.1 K.2.1 i := fun q => by have := q.2.2.2; rw [r] at this; exact nomatch this
        refine ⟨fe, st1, fi1, C1, fun z => absurd (z i (Nat.le_refl _) (by omega)) nok, fun _ post hp n hn => ?_⟩
        obtain ⟨n, rfl⟩ : ∃ n', n = n' + 1 := ⟨n - 1, by omega⟩
        exact rnd post n (fun q => absurd p q) (fun _ _ => hp) (fun q => absurd q nok)
      | true =>
        have ok : kc_ok1 ic (kf_fit oP a_number tk ic a_inA a_inB sc rs) h K.1 K.2.1 i := ⟨p.1, p.2.1, p.2.2, r⟩
        have up : (∀ j, i ≤ j → j < i + (m + 1) → kc_ok1 ic (kf_fit oP a_number tk ic a_inA a_inB sc rs) h K.1 K.2.1 j) ↔ (∀ j, i + 1 ≤ j → j < i + 1 + m → kc_ok1 ic (kf_fit oP a_number tk ic a_inA a_inB sc rs) h K.1 K.2.1 j) := by
          constructor
          · exact fun z j h1 h2 => z j (by omega) (by omega)
          · intro z j h1 h2
            by_cases e : j = i
            · rw [e]; exact ok
            · exact z j (by omega) (by omega)
        refine ⟨fe', st', fi', C', fun z => ?_, fun z post hp n hn => ?_⟩
        · obtain ⟨f1, W1⟩ := R1 (up.mp z)
          refine ⟨f1, fun post W n hn => ?_⟩
          obtain ⟨n, rfl⟩ : ∃ n', n = n' + 1 := ⟨n - 1, by omega⟩
          exact rnd post n (fun q => absurd p q) (fun _ q => by rw [r] at q; exact nomatch q) (fun _ => W1 post W n (by omega))
        · obtain ⟨n, rfl⟩ : ∃ n', n = n' + 1 := ⟨n - 1, by omega⟩
          exact rnd post n (fun q => absurd p q) (fun _ q => by rw [r] at q; exact nomatch q) (fun _ => R0 (fun w => z (up.mpr w)) post hp n (by omega))
    · have nok : ¬ kc_ok1 ic (kf_fit oP a_number tk ic a_inA a_inB sc rs) h K.1 K.2.1 i := fun q => p ⟨q.1, q.2.1, q.2.2.1⟩
      refine ⟨fe, st, fi, C, fun z => absurd (z i (Nat.le_refl _) (by omega)) nok, fun _ post hp n hn => ?_⟩
      obtain ⟨n, rfl⟩ : ∃ n', n = n' + 1 := ⟨n - 1, by omega⟩
      exact rnd post n (fun _ => hp) (fun q => absurd q p) (fun q => absurd q nok)
end
section
variable {f_made f_blocks f_arrivals f_top f_many f_agains f_feeNow : Int32} {a_op a_number a_tokens a_used a_timed a_stack a_inCoin a_inA a_inB a_ins a_amount a_script a_outs a_fitting a_parent a_height a_work a_holds a_held a_rewardScript a_reward a_delivered a_arrival a_right a_wrong a_chain a_row a_fees a_taker a_again a_before : Nat → Int32} {oP tk ic ni nu sc rs nh hd pa he : Nat → Nat} {md bk : Nat} {K : kc_K}
theorem xx_spends {t h : Nat} (hm : t < md) (hh : h < 100) (N : kd_N oP tk ic ni nu sc rs nh hd pa he md bk) (D : kx_D a_op a_number a_tokens a_timed a_inCoin a_ins a_outs a_script a_rewardScript a_holds a_held a_parent a_height oP tk ic ni nu sc rs nh hd pa he) (I : kc_I he h K) (A : kc_A K (kc_av a_amount a_reward)) (C : kf_C md ni a_timed (fun i => kx_s sc rs (ic i)) (kf_fit oP a_number tk ic a_inA a_inB sc rs) a_fitting) :
    ∃ fe' st' fi', kf_C md ni a_timed (fun i => kx_s sc rs (ic i)) (kf_fit oP a_number tk ic a_inA a_inB sc rs) fi' ∧
    (kc_okT ic ni nu a_amount (kf_fit oP a_number tk ic a_inA a_inB sc rs) t h K → fe' = kc_fee ic ni nu a_amount t K.2.2.2 ∧ ∀ post : Int32 → SX → Prop, post 1 (f_made, f_blocks, f_arrivals, f_top, f_many, f_agains, fe', a_op, a_number, a_tokens, a_used, a_timed, st', a_inCoin, a_inA, a_inB, a_ins, a_amount, a_script, a_outs, fi', a_parent, a_height, a_work, a_holds, a_held, a_rewardScript, a_reward, a_delivered, a_arrival, a_right, a_wrong, a_chain, (kc_doT ic ni nu a_amount t h K).1, (kc_doT ic ni nu a_amount t h K).2.1, (kc_doT ic ni nu a_amount t h K).2.2.1, a_row, a_fees, a_taker, a_again, a_before) → wpX_spends post (f_made, f_blocks, f_arrivals, f_top, f_many, f_agains, f_feeNow, a_op, a_number, a_tokens, a_used, a_timed, a_stack, a_inCoin, a_inA, a_inB, a_ins, a_amount, a_script, a_outs, a_fitting, a_parent, a_height, a_work, a_holds, a_held, a_rewardScript, a_reward, a_delivered, a_arrival, a_right, a_wrong, a_chain, K.1, K.2.1, K.2.2.1, a_row, a_fees, a_taker, a_again, a_before) (nI t) (nI h)) ∧
    (¬ kc_okT ic ni nu a_amount (kf_fit oP a_number tk ic a_inA a_inB sc rs) t h K → ∀ post : Int32 → SX → Prop, post 0 (f_made, f_blocks, f_arrivals, f_top, f_many, f_agains, fe', a_op, a_number, a_tokens, a_used, a_timed, st', a_inCoin, a_inA, a_inB, a_ins, a_amount, a_script, a_outs, fi', a_parent, a_height, a_work, a_holds, a_held, a_rewardScript, a_reward, a_delivered, a_arrival, a_right, a_wrong, a_chain, K.1, K.2.1, K.2.2.1, a_row, a_fees, a_taker, a_again, a_before) → wpX_spends post (f_made, f_blocks, f_arrivals, f_top, f_many, f_agains, f_feeNow, a_op, a_number, a_tokens, a_used, a_timed, a_stack, a_inCoin, a_inA, a_inB, a_ins, a_amount, a_script, a_outs, a_fitting, a_parent, a_height, a_work, a_holds, a_held, a_rewardScript, a_reward, a_delivered, a_arrival, a_right, a_wrong, a_chain, K.1, K.2.1, K.2.2.1, a_row, a_fees, a_taker, a_again, a_before) (nI t) (nI h)) := by
  have m40 := kd_md N
  have ht : t < 40 := by omega
  have et : (nI t).toNatClampNeg = t := nI_clamp (by omega)
  obtain ⟨fe', st', fi', C', R1, R0⟩ := xx_sp20 (f_made := f_made) (f_blocks := f_blocks) (f_arrivals := f_arrivals) (f_top := f_top) (f_many := f_many) (f_agains := f_agains) (a_op := a_op) (a_number := a_number) (a_tokens := a_tokens) (a_used := a_used) (a_timed := a_timed) (a_inCoin := a_inCoin) (a_inA := a_inA) (a_inB := a_inB) (a_ins := a_ins) (a_amount := a_amount) (a_script := a_script) (a_outs := a_outs) (a_parent := a_parent) (a_height := a_height) (a_work := a_work) (a_holds := a_holds) (a_held := a_held) (a_rewardScript := a_rewardScript) (a_reward := a_reward) (a_delivered := a_delivered) (a_arrival := a_arrival) (a_right := a_right) (a_wrong := a_wrong) (a_chain := a_chain) (a_row := a_row) (a_fees := a_fees) (a_taker := a_taker) (a_again := a_again) (a_before := a_before) ht hm hh D I (ni t) (3 * t) 0 a_stack a_fitting rfl (Nat.le_refl _) C
  by_cases z : K.2.2.1 t < 0
  · by_cases o : kc_okI ic ni (kf_fit oP a_number tk ic a_inA a_inB sc rs) t h K.1 K.2.1
    · obtain ⟨f1, W1⟩ := R1 o
      have ef : kc_sub a_amount (nu t) (3 * t) fe' = kc_fee ic ni nu a_amount t K.2.2.2 := by
        rw [f1, ← kc_A_fee (kd_D N) A o]; rfl
      refine ⟨kc_sub a_amount (nu t) (3 * t) fe', st', fi', C', fun ok => ⟨ef, fun post hp => ?_⟩, fun nok post hp => ?_⟩
      · refine And.intro (pk_in t 40 ht) ?_
        rw [et]
        refine br_t z (nm_r (kn_m3 t) ⟨ni t + 1, W1 post ⟨nu t + 1, xx_sp111 ht hh D (nu t) (3 * t) fe' _ rfl (by omega) (fun _ => hp) (fun q => ?_)⟩ _ (by omega)⟩)
        exact absurd (by rw [ef]; exact ok.2.2) q
      · refine And.intro (pk_in t 40 ht) ?_
        rw [et]
        refine br_t z (nm_r (kn_m3 t) ⟨ni t + 1, W1 post ⟨nu t + 1, xx_sp111 ht hh D (nu t) (3 * t) fe' _ rfl (by omega) (fun q => ?_) (fun _ => hp)⟩ _ (by omega)⟩)
        exact absurd ⟨z, o, by rw [← ef]; exact q⟩ nok
    · refine ⟨fe', st', fi', C', fun ok => absurd ok.2.1 o, fun _ post hp => ?_⟩
      refine And.intro (pk_in t 40 ht) ?_
      rw [et]
      exact br_t z (nm_r (kn_m3 t) ⟨ni t + 1, R0 o post hp _ (by omega)⟩)
  · refine ⟨f_feeNow, a_stack, a_fitting, C, fun ok => absurd ok.1 z, fun _ post hp => ?_⟩
    refine And.intro (pk_in t 40 ht) ?_
    rw [et]
    exact br_f z hp
end
end
section
/-! ===== Y: going through a chain ===== -/
def ky_T (fr sp wi : Nat → Int32) : Prop := (∀ c, 152 ≤ c → fr c = 0 ∧ sp c = 0) ∧ (∀ t, 40 ≤ t → wi t = 0)
theorem ky_TI {he : Nat → Nat} {h : Nat} {K : kc_K} (I : kc_I he h K) : ky_T K.1 K.2.1 K.2.2.1 := ⟨I.2.2.2.2.2.2.1, I.2.2.2.2.2.2.2⟩
/-- a chain by heights -/
def kc_ch (bk : Nat) (pa he c : Nat → Nat) (H : Nat) : Prop := (∀ h, h ≤ H → c h < bk ∧ he (c h) = h) ∧ (∀ h, h < H → pa (c (h + 1)) = c h)
theorem kc_ch_u {bk : Nat} {pa he c c' : Nat → Nat} : ∀ {H : Nat}, kc_ch bk pa he c H → kc_ch bk pa he c' H → c H = c' H → ∀ h, h ≤ H → c h = c' h := by
  intro H
  induction H with
  | zero => intro A B e h hh; rw [show h = 0 by omega]; exact e
  | succ H ih =>
    intro A B e h hh
    by_cases z : h = H + 1
    · rw [z]; exact e
    · refine ih ⟨fun h q => A.1 h (by omega), fun h q => A.2 h (by omega)⟩ ⟨fun h q => B.1 h (by omega), fun h q => B.2 h (by omega)⟩ ?_ h (by omega)
      rw [← A.2 H (by omega), ← B.2 H (by omega), e]
theorem kc_ch_W {ic ni nu : Nat → Nat} {am : Nat → Int32} {fit : Nat → Int32 → Int32 → Bool} {nh hd pa he c : Nat → Nat} {bk H : Nat} (T : kc_T bk pa he) (A : kc_ch bk pa he c H) : ∀ d h, h + d = H → kc_W ic ni nu am fit nh hd pa he (c h) = none → kc_W ic ni nu am fit nh hd pa he (c H) = none := by
  intro d
  induction d with
  | zero => intro h e z; rw [← show h = H by omega]; exact z
  | succ d ih =>
    intro h e z
    refine ih (h + 1) (by omega) ?_
    have a := A.1 (h + 1) (by omega)
    refine kc_W_none (kc_T_s T a.1 (by omega)) ?_
    rw [A.2 h (by omega)]; exact z
section
variable {g_made g_blocks g_arrivals g_tip g_pooled g_chainLength : Int32} {b_op b_arg b_length b_ins b_inCoin b_inA b_inB b_outs b_amount b_lock b_parent b_work b_rewardLock b_height b_many b_holds b_delivered b_arrived b_pool b_chain b_again b_chosen : Nat → Int32} {oP tk ic ni nu sc rs nh hd pa he : Nat → Nat} {md bk : Nat}
theorem yy_e144 {post : Int32 → SY → Prop} {t h : Nat} {st sp wi : Nat → Int32} (ht : t < 40) (D : ky_D b_op b_arg b_length b_inCoin b_ins b_outs b_lock b_rewardLock b_many b_holds b_parent b_height oP tk ic ni nu sc rs nh hd pa he) : ∀ (m i : Nat) (fe : Int32) (f w : Nat → Int32) (n : Nat), i + m = 3 * t + nu t → m < n →
    post (kc_sub b_amount m i fe) (g_made, g_blocks, g_arrivals, g_tip, g_pooled, g_chainLength, b_op, b_arg, b_length, b_ins, b_inCoin, b_inA, b_inB, b_outs, b_amount, b_lock, b_parent, b_work, b_rewardLock, b_height, b_many, b_holds, b_delivered, b_arrived, b_pool, b_chain, kc_sg (fun j => j) (fun _ => nI h) m i f, kc_sg (fun j => j) b_amount m i w, upd wi t (nI h), sp, st, b_again, b_chosen) →
    wY_enter_144 post (nI t) (nI h) g_made g_blocks g_arrivals g_tip g_pooled g_chainLength n fe (nI i) b_op b_arg b_length b_ins b_inCoin b_inA b_inB b_outs b_amount b_lock b_parent b_work b_rewardLock b_height b_many b_holds b_delivered b_arrived b_pool b_chain f w wi sp st b_again b_chosen := by
  have d := kn_l (dy_nu D) t
  intro m
  induction m with
  | zero =>
    intro i fe f w n e hn hp
    obtain ⟨n, rfl⟩ : ∃ n', n = n' + 1 := ⟨n - 1, by omega⟩
    exact And.intro (pk_in t 41 (by omega)) (pk_le (3 * t + nu t) i (fun _ => And.intro (pk_in t 40 ht) (nm_r (kn_ux t) hp)) (fun z => by omega) (kn_e3 (dy_nu D) t))
  | succ m ih =>
    intro i fe f w n e hn hp
    obtain ⟨n, rfl⟩ : ∃ n', n = n' + 1 := ⟨n - 1, by omega⟩
    have ei : (nI i).toNatClampNeg = i := nI_clamp (by omega)
    exact And.intro (pk_in t 41 (by omega)) (pk_le (3 * t + nu t) i (fun _ => by omega) (fun z => And.intro (pk_in i 123 (by omega)) (nm_r (e' := fe - b_amount i) (by rw [ei]) (And.intro (pk_in i 152 (by omega)) (nm_r (kn_ux i) (And.intro (pk_in i 123 (by omega)) (And.intro (pk_in i 152 (by omega)) (nm_r (e' := upd w i (b_amount i)) (by rw [ei]) (nm_r (nI_1 i) (ih (i + 1) _ _ _ n (by omega) (by omega) hp))))))))) (kn_e3 (dy_nu D) t))
end
section
variable {g_made g_blocks g_arrivals g_tip g_pooled g_chainLength : Int32} {b_op b_arg b_length b_ins b_inCoin b_inA b_inB b_outs b_amount b_lock b_parent b_work b_rewardLock b_height b_many b_holds b_delivered b_arrived b_pool b_chain b_again b_chosen : Nat → Int32} {oP tk ic ni nu sc rs nh hd pa he : Nat → Nat} {md bk : Nat} {K : kc_K}
theorem yy_e18 {t h : Nat} {w : Nat → Int32} (hm : t < md) (hh : h < 100) (N : kd_N oP tk ic ni nu sc rs nh hd pa he md bk) (D : ky_D b_op b_arg b_length b_inCoin b_ins b_outs b_lock b_rewardLock b_many b_holds b_parent b_height oP tk ic ni nu sc rs nh hd pa he) (I : kc_I he h K) :
    ∀ (m i : Nat) (fe : Int32) (st sp : Nat → Int32), i + m = 3 * t + ni t → 3 * t ≤ i → (∀ j, i ≤ j → j < 3 * t + ni t → sp (ic j) = K.2.1 (ic j)) → (∀ c, 152 ≤ c → sp c = 0) → ∃ st' sp', (∀ c, 152 ≤ c → sp' c = 0) ∧
    ((∀ j, i ≤ j → j < i + m → kc_ok1 ic (kf_fit oP b_arg tk ic b_inA b_inB sc rs) h K.1 K.2.1 j) → sp' = kc_sg ic (fun _ => 1) m i sp ∧ ∀ post : Int32 → SY → Prop, (∃ n, wY_enter_144 post (nI t) (nI h) g_made g_blocks g_arrivals g_tip g_pooled g_chainLength n (kc_sum (fun j => w (ic j)) m i fe) (nI (3 * t)) b_op b_arg b_length b_ins b_inCoin b_inA b_inB b_outs b_amount b_lock b_parent b_work b_rewardLock b_height b_many b_holds b_delivered b_arrived b_pool b_chain K.1 w K.2.2.1 sp' st' b_again b_chosen) → ∀ n, m < n → wY_enter_18 post (nI t) (nI h) n fe (nI i) g_made g_blocks g_arrivals g_tip g_pooled g_chainLength b_op b_arg b_length b_ins b_inCoin b_inA b_inB b_outs b_amount b_lock b_parent b_work b_rewardLock b_height b_many b_holds b_delivered b_arrived b_pool b_chain K.1 w K.2.2.1 sp st b_again b_chosen) ∧
    (¬ (∀ j, i ≤ j → j < i + m → kc_ok1 ic (kf_fit oP b_arg tk ic b_inA b_inB sc rs) h K.1 K.2.1 j) → ∀ post : Int32 → SY → Prop, post (-1) (g_made, g_blocks, g_arrivals, g_tip, g_pooled, g_chainLength, b_op, b_arg, b_length, b_ins, b_inCoin, b_inA, b_inB, b_outs, b_amount, b_lock, b_parent, b_work, b_rewardLock, b_height, b_many, b_holds, b_delivered, b_arrived, b_pool, b_chain, K.1, w, K.2.2.1, sp', st', b_again, b_chosen) → ∀ n, m < n → wY_enter_18 post (nI t) (nI h) n fe (nI i) g_made g_blocks g_arrivals g_tip g_pooled g_chainLength b_op b_arg b_length b_ins b_inCoin b_inA b_inB b_outs b_amount b_lock b_parent b_work b_rewardLock b_height b_many b_holds b_delivered b_arrived b_pool b_chain K.1 w K.2.2.1 sp st b_again b_chosen) := by
  have d := kn_l (dy_ni D) t
  have m40 := kd_md N
  intro m
  induction m with
  | zero =>
    intro i fe st sp e h3 hs hT
    refine ⟨st, sp, hT, fun _ => ⟨rfl, fun post W n hn => ?_⟩, fun z => absurd (fun j h1 h2 => by omega) z⟩
    obtain ⟨n, rfl⟩ : ∃ n', n = n' + 1 := ⟨n - 1, by omega⟩
    exact And.intro (pk_in t 41 (by omega)) (pk_le (3 * t + ni t) i (fun _ => nm_r (kn_m3 t) W) (fun z => by omega) (kn_e3 (dy_ni D) t))
  | succ m ih =>
    intro i fe st sp e h3 hs hT
    have c := kn_at (dy_ic D) i
    have cl := kn_l (dy_ic D) i
    have ecl : (nI (ic i)).toNatClampNeg = ic i := nI_clamp (by omega)
    have ei : (nI i).toNatClampNeg = i := nI_clamp (by omega)
    have si : sp (ic i) = K.2.1 (ic i) := hs i (Nat.le_refl _) (by omega)
    obtain ⟨st1, O1⟩ := yy_fits (g_made := g_made) (g_blocks := g_blocks) (g_arrivals := g_arrivals) (g_tip := g_tip) (g_pooled := g_pooled) (g_chainLength := g_chainLength) (b_op := b_op) (b_arg := b_arg) (b_length := b_length) (b_ins := b_ins) (b_inCoin := b_inCoin) (b_inA := b_inA) (b_inB := b_inB) (b_outs := b_outs) (b_amount := b_amount) (b_lock := b_lock) (b_parent := b_parent) (b_work := b_work) (b_rewardLock := b_rewardLock) (b_height := b_height) (b_many := b_many) (b_holds := b_holds) (b_delivered := b_delivered) (b_arrived := b_arrived) (b_pool := b_pool) (b_chain := b_chain) (b_from := K.1) (b_worth := w) (b_within := K.2.2.1) (b_spent := sp) (b_stack := st) (b_again := b_again) (b_chosen := b_chosen) (a := b_inA i) (b := b_inB i) (g := K.1 (ic i)) (h := nI h) cl (dy_tk D) (dy_op D) (dy_sk D) (dy_sc D) (dy_rs D)
    obtain ⟨st', sp', hT', R1, R0⟩ := ih (i + 1) (fe + w (ic i)) st1 (upd sp (ic i) 1) (by omega) (by omega)
      (fun j h1 h2 => by
        have ne : ic j ≠ ic i := fun q => by have := kd_inj N hm (show 3 * t ≤ j by omega) h2 h3 (show i < 3 * t + ni t by omega) q; omega
        rw [pk_un ne]; exact hs j (by omega) h2)
      (fun q hq => by rw [pk_un (by omega)]; exact hT q hq)
    have rnd : ∀ (post : Int32 → SY → Prop) (n : Nat),
        (¬ (¬ K.1 (ic i) < 0 ∧ K.2.1 (ic i) = 0 ∧ (ic i < 120 ∨ ¬ nI h - 2 < K.1 (ic i))) → post (-1) (g_made, g_blocks, g_arrivals, g_tip, g_pooled, g_chainLength, b_op, b_arg, b_length, b_ins, b_inCoin, b_inA, b_inB, b_outs, b_amount, b_lock, b_parent, b_work, b_rewardLock, b_height, b_many, b_holds, b_delivered, b_arrived, b_pool, b_chain, K.1, w, K.2.2.1, sp, st, b_again, b_chosen)) →
        (¬ K.1 (ic i) < 0 ∧ K.2.1 (ic i) = 0 ∧ (ic i < 120 ∨ ¬ nI h - 2 < K.1 (ic i)) → (kf_fit oP b_arg tk ic b_inA b_inB sc rs) i (K.1 (ic i)) (nI h) = false → post (-1) (g_made, g_blocks, g_arrivals, g_tip, g_pooled, g_chainLength, b_op, b_arg, b_length, b_ins, b_inCoin, b_inA, b_inB, b_outs, b_amount, b_lock, b_parent, b_work, b_rewardLock, b_height, b_many, b_holds, b_delivered, b_arrived, b_pool, b_chain, K.1, w, K.2.2.1, sp, st1, b_again, b_chosen)) →
        (kc_ok1 ic (kf_fit oP b_arg tk ic b_inA b_inB sc rs) h K.1 K.2.1 i → wY_enter_18 post (nI t) (nI h) n (fe + w (ic i)) (nI (i + 1)) g_made g_blocks g_arrivals g_tip g_pooled g_chainLength b_op b_arg b_length b_ins b_inCoin b_inA b_inB b_outs b_amount b_lock b_parent b_work b_rewardLock b_height b_many b_holds b_delivered b_arrived b_pool b_chain K.1 w K.2.2.1 (upd sp (ic i) 1) st1 b_again b_chosen) →
        wY_enter_18 post (nI t) (nI h) (n + 1) fe (nI i) g_made g_blocks g_arrivals g_tip g_pooled g_chainLength b_op b_arg b_length b_ins b_inCoin b_inA b_inB b_outs b_amount b_lock b_parent b_work b_rewardLock b_height b_many b_holds b_delivered b_arrived b_pool b_chain K.1 w K.2.2.1 sp st b_again b_chosen := by
      intro post n k0 k1 k2
      have w82 : ¬ K.1 (ic i) < 0 → K.2.1 (ic i) = 0 → (ic i < 120 ∨ ¬ nI h - 2 < K.1 (ic i)) → wY_enter_82 post (wY_enter_18 post (nI t) (nI h) n) (nI t) (nI h) fe (nI i) (nI (ic i)) g_made g_blocks g_arrivals g_tip g_pooled g_chainLength b_op b_arg b_length b_ins b_inCoin b_inA b_inB b_outs b_amount b_lock b_parent b_work b_rewardLock b_height b_many b_holds b_delivered b_arrived b_pool b_chain K.1 w K.2.2.1 sp st b_again b_chosen := by
        intro g0 s0 gr
        unfold wY_enter_82
        refine And.intro (pk_in i 123 (by omega)) (And.intro (pk_in i 123 (by omega)) (And.intro (pk_in (ic i) 152 cl) ?_))
        rw [ei, ecl]
        refine O1 _ ?_
        show ((kn_b ((kf_fit oP b_arg tk ic b_inA b_inB sc rs) i (K.1 (ic i)) (nI h)) = 0 → _) ∧ (¬ kn_b ((kf_fit oP b_arg tk ic b_inA b_inB sc rs) i (K.1 (ic i)) (nI h)) = 0 → _))
        cases r : (kf_fit oP b_arg tk ic b_inA b_inB sc rs) i (K.1 (ic i)) (nI h) with
        | false => exact br_t rfl (k1 ⟨g0, s0, gr⟩ r)
        | true => exact br_f kn_10 (And.intro (pk_in (ic i) 152 cl) (nm_r (e' := upd sp (ic i) 1) rfl (And.intro (pk_in (ic i) 152 cl) (nm_e (nm_r (nI_1 i) (k2 ⟨g0, s0, gr, r⟩))))))
      refine And.intro (pk_in t 41 (by omega)) (pk_le (3 * t + ni t) i (fun _ => by omega) (fun z => And.intro (pk_in i 123 (by omega)) (nm_r c (And.intro (pk_in (ic i) 152 cl) ?_))) (kn_e3 (dy_ni D) t))
      rw [ecl, si]
      refine br_c (fun g0 => k0 (fun q => q.1 g0)) (fun g0 => And.intro (pk_in (ic i) 152 cl) (br_c (fun s0 => pk_lt (ic i) 120 (fun y => w82 g0 s0 (Or.inl y)) (fun y => And.intro (pk_in (ic i) 152 cl) (br_c (fun q => k0 (fun r => r.2.2.elim (fun r => by omega) (fun r => r q))) (fun q => w82 g0 s0 (Or.inr q))))) (fun s0 => k0 (fun q => s0 q.2.1))))
    by_cases p : ¬ K.1 (ic i) < 0 ∧ K.2.1 (ic i) = 0 ∧ (ic i < 120 ∨ ¬ nI h - 2 < K.1 (ic i))
    · cases r : (kf_fit oP b_arg tk ic b_inA b_inB sc rs) i (K.1 (ic i)) (nI h) with
      | false =>
        have nok : ¬ kc_ok1 ic (kf_fit oP b_arg tk ic b_inA b_inB sc rs) h K.1 K.2.1 i := fun q => by have := q.2.2.2; rw [r] at this; exact nomatch this
        refine ⟨st1, sp, hT, fun z => absurd (z i (Nat.le_refl _) (by omega)) nok, fun _ post hp n hn => ?_⟩
        obtain ⟨n, rfl⟩ : ∃ n', n = n' + 1 := ⟨n - 1, by omega⟩
        exact rnd post n (fun q => absurd p q) (fun _ _ => hp) (fun q => absurd q nok)
      | true =>
        have ok : kc_ok1 ic (kf_fit oP b_arg tk ic b_inA b_inB sc rs) h K.1 K.2.1 i := ⟨p.1, p.2.1, p.2.2, r⟩
        have up : (∀ j, i ≤ j → j < i + (m + 1) → kc_ok1 ic (kf_fit oP b_arg tk ic b_inA b_inB sc rs) h K.1 K.2.1 j) ↔ (∀ j, i + 1 ≤ j → j < i + 1 + m → kc_ok1 ic (kf_fit oP b_arg tk ic b_inA b_inB sc rs) h K.1 K.2.1 j) := by
          constructor
          · exact fun z j h1 h2 => z j (by omega) (by omega)
          · intro z j h1 h2
            by_cases e : j = i
            · rw [e]; exact ok
            · exact z j (by omega) (by omega)
        refine ⟨st', sp', hT', fun z => ?_, fun z post hp n hn => ?_⟩
        · obtain ⟨f1, W1⟩ := R1 (up.mp z)
          refine ⟨f1, fun post W n hn => ?_⟩
          obtain ⟨n, rfl⟩ : ∃ n', n = n' + 1 := ⟨n - 1, by omega⟩
          exact rnd post n (fun q => absurd p q) (fun _ q => by rw [r] at q; exact nomatch q) (fun _ => W1 post W n (by omega))
        · obtain ⟨n, rfl⟩ : ∃ n', n = n' + 1 := ⟨n - 1, by omega⟩
          exact rnd post n (fun q => absurd p q) (fun _ q => by rw [r] at q; exact nomatch q) (fun _ => R0 (fun w => z (up.mpr w)) post hp n (by omega))
    · have nok : ¬ kc_ok1 ic (kf_fit oP b_arg tk ic b_inA b_inB sc rs) h K.1 K.2.1 i := fun q => p ⟨q.1, q.2.1, q.2.2.1⟩
      refine ⟨st, sp, hT, fun z => absurd (z i (Nat.le_refl _) (by omega)) nok, fun _ post hp n hn => ?_⟩
      obtain ⟨n, rfl⟩ : ∃ n', n = n' + 1 := ⟨n - 1, by omega⟩
      exact rnd post n (fun _ => hp) (fun q => absurd q p) (fun q => absurd q nok)
theorem yy_enter {t h : Nat} {w st : Nat → Int32} (hm : t < md) (hh : h < 100) (N : kd_N oP tk ic ni nu sc rs nh hd pa he md bk) (D : ky_D b_op b_arg b_length b_inCoin b_ins b_outs b_lock b_rewardLock b_many b_holds b_parent b_height oP tk ic ni nu sc rs nh hd pa he) (I : kc_I he h K) :
    ∃ st' sp', (∀ c, 152 ≤ c → sp' c = 0) ∧
    (K.2.2.1 t < 0 ∧ kc_okI ic ni (kf_fit oP b_arg tk ic b_inA b_inB sc rs) t h K.1 K.2.1 → ∀ post : Int32 → SY → Prop, post (kc_fee ic ni nu b_amount t w) (g_made, g_blocks, g_arrivals, g_tip, g_pooled, g_chainLength, b_op, b_arg, b_length, b_ins, b_inCoin, b_inA, b_inB, b_outs, b_amount, b_lock, b_parent, b_work, b_rewardLock, b_height, b_many, b_holds, b_delivered, b_arrived, b_pool, b_chain, (kc_doT ic ni nu b_amount t h K).1, kc_sg (fun j => j) b_amount (nu t) (3 * t) w, (kc_doT ic ni nu b_amount t h K).2.2.1, (kc_doT ic ni nu b_amount t h K).2.1, st', b_again, b_chosen) → wpY_enter post (g_made, g_blocks, g_arrivals, g_tip, g_pooled, g_chainLength, b_op, b_arg, b_length, b_ins, b_inCoin, b_inA, b_inB, b_outs, b_amount, b_lock, b_parent, b_work, b_rewardLock, b_height, b_many, b_holds, b_delivered, b_arrived, b_pool, b_chain, K.1, w, K.2.2.1, K.2.1, st, b_again, b_chosen) (nI t) (nI h)) ∧
    (¬ (K.2.2.1 t < 0 ∧ kc_okI ic ni (kf_fit oP b_arg tk ic b_inA b_inB sc rs) t h K.1 K.2.1) → ∀ post : Int32 → SY → Prop, post (-1) (g_made, g_blocks, g_arrivals, g_tip, g_pooled, g_chainLength, b_op, b_arg, b_length, b_ins, b_inCoin, b_inA, b_inB, b_outs, b_amount, b_lock, b_parent, b_work, b_rewardLock, b_height, b_many, b_holds, b_delivered, b_arrived, b_pool, b_chain, K.1, w, K.2.2.1, sp', st', b_again, b_chosen) → wpY_enter post (g_made, g_blocks, g_arrivals, g_tip, g_pooled, g_chainLength, b_op, b_arg, b_length, b_ins, b_inCoin, b_inA, b_inB, b_outs, b_amount, b_lock, b_parent, b_work, b_rewardLock, b_height, b_many, b_holds, b_delivered, b_arrived, b_pool, b_chain, K.1, w, K.2.2.1, K.2.1, st, b_again, b_chosen) (nI t) (nI h)) := by
  have m40 := kd_md N
  have ht : t < 40 := by omega
  have et : (nI t).toNatClampNeg = t := nI_clamp (by omega)
  obtain ⟨st', sp', hT', R1, R0⟩ := yy_e18 (g_made := g_made) (g_blocks := g_blocks) (g_arrivals := g_arrivals) (g_tip := g_tip) (g_pooled := g_pooled) (g_chainLength := g_chainLength) (b_op := b_op) (b_arg := b_arg) (b_length := b_length) (b_ins := b_ins) (b_inCoin := b_inCoin) (b_inA := b_inA) (b_inB := b_inB) (b_outs := b_outs) (b_amount := b_amount) (b_lock := b_lock) (b_parent := b_parent) (b_work := b_work) (b_rewardLock := b_rewardLock) (b_height := b_height) (b_many := b_many) (b_holds := b_holds) (b_delivered := b_delivered) (b_arrived := b_arrived) (b_pool := b_pool) (b_chain := b_chain) (b_again := b_again) (b_chosen := b_chosen) (w := w) hm hh N D I (ni t) (3 * t) 0 st K.2.1 rfl (Nat.le_refl _) (fun _ _ _ => rfl) (fun c hc => (I.2.2.2.2.2.2.1 c hc).2)
  by_cases z : K.2.2.1 t < 0
  · by_cases o : kc_okI ic ni (kf_fit oP b_arg tk ic b_inA b_inB sc rs) t h K.1 K.2.1
    · obtain ⟨f1, W1⟩ := R1 o
      refine ⟨st', sp', hT', fun _ post hp => ?_, fun q => absurd ⟨z, o⟩ q⟩
      refine And.intro (pk_in t 40 ht) ?_
      rw [et]
      refine br_t z (nm_r (kn_m3 t) ⟨ni t + 1, W1 post ⟨nu t + 1, yy_e144 ht D (nu t) (3 * t) _ _ _ _ rfl (by omega) ?_⟩ _ (by omega)⟩)
      rw [f1]
      exact hp
    · refine ⟨st', sp', hT', fun q => absurd q.2 o, fun _ post hp => ?_⟩
      refine And.intro (pk_in t 40 ht) ?_
      rw [et]
      exact br_t z (nm_r (kn_m3 t) ⟨ni t + 1, R0 o post hp _ (by omega)⟩)
  · refine ⟨st, K.2.1, fun c hc => (I.2.2.2.2.2.2.1 c hc).2, fun q => absurd q.1 z, fun _ post hp => ?_⟩
    refine And.intro (pk_in t 40 ht) ?_
    rw [et]
    exact br_f z hp
end
end
section
/-! ===== Y: walk ===== -/
section
variable {g_made g_blocks g_arrivals g_tip g_pooled g_chainLength : Int32} {b_op b_arg b_length b_ins b_inCoin b_inA b_inB b_outs b_amount b_lock b_parent b_work b_rewardLock b_height b_many b_holds b_delivered b_arrived b_pool b_chain b_again b_chosen : Nat → Int32} {oP tk ic ni nu sc rs nh hd pa he : Nat → Nat} {md bk : Nat} {K : kc_K}
/-- the transactions of a block -/
theorem yy_w123 {b h : Nat} (hb : b < bk) (hh : h < 32) (N : kd_N oP tk ic ni nu sc rs nh hd pa he md bk) (D : ky_D b_op b_arg b_length b_inCoin b_ins b_outs b_lock b_rewardLock b_many b_holds b_parent b_height oP tk ic ni nu sc rs nh hd pa he) (hc : b_chain h = nI b) (I : kc_I he h K) :
    ∀ (m j : Nat) (p : kc_K × Int32) (w st : Nat → Int32), j + m = nh b → kc_txs ic ni nu b_amount (kf_fit oP b_arg tk ic b_inA b_inB sc rs) hd b h j K = some p → kc_A p.1 w →
    (∀ K', kc_blk ic ni nu b_amount (kf_fit oP b_arg tk ic b_inA b_inB sc rs) nh hd b h K = some K' → ∃ w' st', kc_A K' w' ∧ ∀ (post : Int32 → SY → Prop) (J : Int32 → Int32 → Int32 → Int32 → Int32 → Int32 → Int32 → (Nat → Int32) → (Nat → Int32) → (Nat → Int32) → (Nat → Int32) → (Nat → Int32) → (Nat → Int32) → (Nat → Int32) → (Nat → Int32) → (Nat → Int32) → (Nat → Int32) → (Nat → Int32) → (Nat → Int32) → (Nat → Int32) → (Nat → Int32) → (Nat → Int32) → (Nat → Int32) → (Nat → Int32) → (Nat → Int32) → (Nat → Int32) → (Nat → Int32) → (Nat → Int32) → (Nat → Int32) → (Nat → Int32) → (Nat → Int32) → (Nat → Int32) → (Nat → Int32) → (Nat → Int32) → Prop), J (nI (h + 1)) g_made g_blocks g_arrivals g_tip g_pooled g_chainLength b_op b_arg b_length b_ins b_inCoin b_inA b_inB b_outs b_amount b_lock b_parent b_work b_rewardLock b_height b_many b_holds b_delivered b_arrived b_pool b_chain K'.1 w' K'.2.2.1 K'.2.1 st' b_again b_chosen → ∀ n, m < n → wY_walk_123 post J (nI h) n (kc_base h + p.2) (nI (4 * b + j)) g_made g_blocks g_arrivals g_tip g_pooled g_chainLength b_op b_arg b_length b_ins b_inCoin b_inA b_inB b_outs b_amount b_lock b_parent b_work b_rewardLock b_height b_many b_holds b_delivered b_arrived b_pool b_chain p.1.1 w p.1.2.2.1 p.1.2.1 st b_again b_chosen) ∧
    (kc_blk ic ni nu b_amount (kf_fit oP b_arg tk ic b_inA b_inB sc rs) nh hd b h K = none → ∃ fr sp wi w' st', ky_T fr sp wi ∧ ∀ (post : Int32 → SY → Prop) (J : Int32 → Int32 → Int32 → Int32 → Int32 → Int32 → Int32 → (Nat → Int32) → (Nat → Int32) → (Nat → Int32) → (Nat → Int32) → (Nat → Int32) → (Nat → Int32) → (Nat → Int32) → (Nat → Int32) → (Nat → Int32) → (Nat → Int32) → (Nat → Int32) → (Nat → Int32) → (Nat → Int32) → (Nat → Int32) → (Nat → Int32) → (Nat → Int32) → (Nat → Int32) → (Nat → Int32) → (Nat → Int32) → (Nat → Int32) → (Nat → Int32) → (Nat → Int32) → (Nat → Int32) → (Nat → Int32) → (Nat → Int32) → (Nat → Int32) → (Nat → Int32) → Prop), post 0 (g_made, g_blocks, g_arrivals, g_tip, g_pooled, g_chainLength, b_op, b_arg, b_length, b_ins, b_inCoin, b_inA, b_inB, b_outs, b_amount, b_lock, b_parent, b_work, b_rewardLock, b_height, b_many, b_holds, b_delivered, b_arrived, b_pool, b_chain, fr, w', wi, sp, st', b_again, b_chosen) → ∀ n, m < n → wY_walk_123 post J (nI h) n (kc_base h + p.2) (nI (4 * b + j)) g_made g_blocks g_arrivals g_tip g_pooled g_chainLength b_op b_arg b_length b_ins b_inCoin b_inA b_inB b_outs b_amount b_lock b_parent b_work b_rewardLock b_height b_many b_holds b_delivered b_arrived b_pool b_chain p.1.1 w p.1.2.2.1 p.1.2.1 st b_again b_chosen) := by
  have b32 := kd_bk N
  have d := kn_l (dy_nh D) b
  have eh : (nI h).toNatClampNeg = h := nI_clamp (by omega)
  have c1 : b_chain (nI h).toNatClampNeg = nI b := by rw [eh]; exact hc
  have e4 : 4 * b_chain (nI h).toNatClampNeg + b_many (b_chain (nI h).toNatClampNeg).toNatClampNeg = nI (4 * b + nh b) := by rw [c1]; exact kn_e4 (dy_nh D) b
  have e120 : 120 + b_chain (nI h).toNatClampNeg = nI (120 + b) := by rw [c1]; exact nI_add 120 b
  intro m
  induction m with
  | zero =>
    intro j p w st e ep A
    have ej : j = nh b := by omega
    subst ej
    refine ⟨fun K' ek => ?_, fun ek => ?_⟩
    · rw [kc_blk_t ep] at ek
      have ek := Option.some.inj ek
      subst ek
      refine ⟨upd w (120 + b) (kc_base h + p.2), st, kc_A_finY A, fun post J hJ n hn => ?_⟩
      obtain ⟨n, rfl⟩ : ∃ n', n = n' + 1 := ⟨n - 1, by omega⟩
      exact And.intro (pk_in h 32 hh) (And.intro (pk_in h 32 hh) (And.intro (pk_in b 33 (by omega) c1) (pk_le (4 * b + nh b) (4 * b + nh b) (fun _ => And.intro (pk_in h 32 hh) (And.intro (pk_in (120 + b) 152 (by omega) e120) (nm_r (kn_ux (120 + b) e120) (And.intro (pk_in h 32 hh) (And.intro (pk_in (120 + b) 152 (by omega) e120) (nm_r (kn_ux (120 + b) e120) (nm_r (nI_1 h) hJ))))))) (fun z => by omega) e4)))
    · rw [kc_blk_t ep] at ek; exact nomatch ek
  | succ m ih =>
    intro j p w st e ep A
    have Ip := kc_txs_I (kd_D N) (by omega) I _ _ ep
    have hdj : hd (4 * b + j) < md := kd_hd N hb (by omega)
    have ehd := kn_at (dy_hd D) (4 * b + j)
    obtain ⟨st1, sp1, hT, E1, E0⟩ := yy_enter (g_made := g_made) (g_blocks := g_blocks) (g_arrivals := g_arrivals) (g_tip := g_tip) (g_pooled := g_pooled) (g_chainLength := g_chainLength) (b_op := b_op) (b_arg := b_arg) (b_length := b_length) (b_ins := b_ins) (b_inCoin := b_inCoin) (b_inA := b_inA) (b_inB := b_inB) (b_outs := b_outs) (b_amount := b_amount) (b_lock := b_lock) (b_parent := b_parent) (b_work := b_work) (b_rewardLock := b_rewardLock) (b_height := b_height) (b_many := b_many) (b_holds := b_holds) (b_delivered := b_delivered) (b_arrived := b_arrived) (b_pool := b_pool) (b_chain := b_chain) (b_again := b_again) (b_chosen := b_chosen) (w := w) (st := st) hdj (show h < 100 by omega) N D Ip
    have rnd : ∀ (post : Int32 → SY → Prop) (J : Int32 → Int32 → Int32 → Int32 → Int32 → Int32 → Int32 → (Nat → Int32) → (Nat → Int32) → (Nat → Int32) → (Nat → Int32) → (Nat → Int32) → (Nat → Int32) → (Nat → Int32) → (Nat → Int32) → (Nat → Int32) → (Nat → Int32) → (Nat → Int32) → (Nat → Int32) → (Nat → Int32) → (Nat → Int32) → (Nat → Int32) → (Nat → Int32) → (Nat → Int32) → (Nat → Int32) → (Nat → Int32) → (Nat → Int32) → (Nat → Int32) → (Nat → Int32) → (Nat → Int32) → (Nat → Int32) → (Nat → Int32) → (Nat → Int32) → (Nat → Int32) → Prop) (n : Nat), wpY_enter (fun r u => match u with | (g_made, g_blocks, g_arrivals, g_tip, g_pooled, g_chainLength, b_op, b_arg, b_length, b_ins, b_inCoin, b_inA, b_inB, b_outs, b_amount, b_lock, b_parent, b_work, b_rewardLock, b_height, b_many, b_holds, b_delivered, b_arrived, b_pool, b_chain, b_from, b_worth, b_within, b_spent, b_stack, b_again, b_chosen) => ((0 ≤ r → (∀ x4 : Int32, x4 = (kc_base h + p.2) + r → (∀ x5 : Int32, x5 = nI (4 * b + j) + 1 → (wY_walk_123 post J (nI h) n x4 x5 g_made g_blocks g_arrivals g_tip g_pooled g_chainLength b_op b_arg b_length b_ins b_inCoin b_inA b_inB b_outs b_amount b_lock b_parent b_work b_rewardLock b_height b_many b_holds b_delivered b_arrived b_pool b_chain b_from b_worth b_within b_spent b_stack b_again b_chosen)))) ∧ (¬ 0 ≤ r → (post 0 (g_made, g_blocks, g_arrivals, g_tip, g_pooled, g_chainLength, b_op, b_arg, b_length, b_ins, b_inCoin, b_inA, b_inB, b_outs, b_amount, b_lock, b_parent, b_work, b_rewardLock, b_height, b_many, b_holds, b_delivered, b_arrived, b_pool, b_chain, b_from, b_worth, b_within, b_spent, b_stack, b_again, b_chosen))))) (g_made, g_blocks, g_arrivals, g_tip, g_pooled, g_chainLength, b_op, b_arg, b_length, b_ins, b_inCoin, b_inA, b_inB, b_outs, b_amount, b_lock, b_parent, b_work, b_rewardLock, b_height, b_many, b_holds, b_delivered, b_arrived, b_pool, b_chain, p.1.1, w, p.1.2.2.1, p.1.2.1, st, b_again, b_chosen) (nI (hd (4 * b + j))) (nI h) → wY_walk_123 post J (nI h) (n + 1) (kc_base h + p.2) (nI (4 * b + j)) g_made g_blocks g_arrivals g_tip g_pooled g_chainLength b_op b_arg b_length b_ins b_inCoin b_inA b_inB b_outs b_amount b_lock b_parent b_work b_rewardLock b_height b_many b_holds b_delivered b_arrived b_pool b_chain p.1.1 w p.1.2.2.1 p.1.2.1 st b_again b_chosen := by
      intro post J n W
      refine And.intro (pk_in h 32 hh) (And.intro (pk_in h 32 hh) (And.intro (pk_in b 33 (by omega) c1) (pk_le (4 * b + nh b) (4 * b + j) (fun z => by omega) (fun _ => And.intro (pk_in (4 * b + j) 132 (by omega)) ?_) e4)))
      rw [ehd]
      exact W
    by_cases ok : kc_okT ic ni nu b_amount (kf_fit oP b_arg tk ic b_inA b_inB sc rs) (hd (4 * b + j)) h p.1
    · have fe := kc_A_fee (nu := nu) (am := b_amount) (kd_D N) A ok.2.1
      have s := (kc_txs_s ep).trans (kc_tx1_t ok)
      obtain ⟨S1, S0⟩ := ih (j + 1) _ (kc_sg (fun j => j) b_amount (nu (hd (4 * b + j))) (3 * hd (4 * b + j)) w) st1 (by omega) s (kc_A_doY A)
      have go : ∀ (post : Int32 → SY → Prop) (J : Int32 → Int32 → Int32 → Int32 → Int32 → Int32 → Int32 → (Nat → Int32) → (Nat → Int32) → (Nat → Int32) → (Nat → Int32) → (Nat → Int32) → (Nat → Int32) → (Nat → Int32) → (Nat → Int32) → (Nat → Int32) → (Nat → Int32) → (Nat → Int32) → (Nat → Int32) → (Nat → Int32) → (Nat → Int32) → (Nat → Int32) → (Nat → Int32) → (Nat → Int32) → (Nat → Int32) → (Nat → Int32) → (Nat → Int32) → (Nat → Int32) → (Nat → Int32) → (Nat → Int32) → (Nat → Int32) → (Nat → Int32) → (Nat → Int32) → (Nat → Int32) → Prop) (n : Nat), wY_walk_123 post J (nI h) n (kc_base h + (p.2 + kc_fee ic ni nu b_amount (hd (4 * b + j)) p.1.2.2.2)) (nI (4 * b + (j + 1))) g_made g_blocks g_arrivals g_tip g_pooled g_chainLength b_op b_arg b_length b_ins b_inCoin b_inA b_inB b_outs b_amount b_lock b_parent b_work b_rewardLock b_height b_many b_holds b_delivered b_arrived b_pool b_chain ((kc_doT ic ni nu b_amount (hd (4 * b + j)) h p.1).1) (kc_sg (fun j => j) b_amount (nu (hd (4 * b + j))) (3 * hd (4 * b + j)) w) ((kc_doT ic ni nu b_amount (hd (4 * b + j)) h p.1).2.2.1) ((kc_doT ic ni nu b_amount (hd (4 * b + j)) h p.1).2.1) st1 b_again b_chosen → wY_walk_123 post J (nI h) (n + 1) (kc_base h + p.2) (nI (4 * b + j)) g_made g_blocks g_arrivals g_tip g_pooled g_chainLength b_op b_arg b_length b_ins b_inCoin b_inA b_inB b_outs b_amount b_lock b_parent b_work b_rewardLock b_height b_many b_holds b_delivered b_arrived b_pool b_chain p.1.1 w p.1.2.2.1 p.1.2.1 st b_again b_chosen := by
        intro post J n W
        refine rnd post J n (E1 ⟨ok.1, ok.2.1⟩ _ ?_)
        rw [fe]
        exact br_t ok.2.2 (nm_r (Int32.add_assoc _ _ _) (nm_r (nI_1 (4 * b + j)) W))
      refine ⟨fun K' ek => ?_, fun ek => ?_⟩
      · obtain ⟨w', st', A', Q⟩ := S1 K' ek
        refine ⟨w', st', A', fun post J hJ n hn => ?_⟩
        obtain ⟨n, rfl⟩ : ∃ n', n = n' + 1 := ⟨n - 1, by omega⟩
        exact go post J n (Q post J hJ n (by omega))
      · obtain ⟨fr, sp, wi, w', st', T', Q⟩ := S0 ek
        refine ⟨fr, sp, wi, w', st', T', fun post J hJ n hn => ?_⟩
        obtain ⟨n, rfl⟩ : ∃ n', n = n' + 1 := ⟨n - 1, by omega⟩
        exact go post J n (Q post J hJ n (by omega))
    · have s := (kc_txs_s ep).trans (kc_tx1_f ok)
      have bn : kc_blk ic ni nu b_amount (kf_fit oP b_arg tk ic b_inA b_inB sc rs) nh hd b h K = none := kc_blk_f s (by omega)
      refine ⟨fun K' ek => (by rw [bn] at ek; exact nomatch ek), fun _ => ?_⟩
      by_cases ok2 : p.1.2.2.1 (hd (4 * b + j)) < 0 ∧ kc_okI ic ni (kf_fit oP b_arg tk ic b_inA b_inB sc rs) (hd (4 * b + j)) h p.1.1 p.1.2.1
      · have fe := kc_A_fee (nu := nu) (am := b_amount) (kd_D N) A ok2.2
        have ng : ¬ 0 ≤ kc_fee ic ni nu b_amount (hd (4 * b + j)) p.1.2.2.2 := fun q => ok ⟨ok2.1, ok2.2, q⟩
        refine ⟨(kc_doT ic ni nu b_amount (hd (4 * b + j)) h p.1).1, (kc_doT ic ni nu b_amount (hd (4 * b + j)) h p.1).2.1, (kc_doT ic ni nu b_amount (hd (4 * b + j)) h p.1).2.2.1, kc_sg (fun j => j) b_amount (nu (hd (4 * b + j))) (3 * hd (4 * b + j)) w, st1, ?_, fun post J hp n hn => ?_⟩
        rotate_left
        · obtain ⟨n, rfl⟩ : ∃ n', n = n' + 1 := ⟨n - 1, by omega⟩
          refine rnd post J n (E1 ok2 _ ?_)
          rw [fe]
          exact br_f ng hp
        · have i7 := Ip.2.2.2.2.2.2.1
          have i8 := Ip.2.2.2.2.2.2.2
          have m40 := kd_md N
          have d3 := kn_l (dy_nu D) (hd (4 * b + j))
          refine ⟨fun c hc => ⟨?_, ?_⟩, fun t ht => ?_⟩
          · show kc_sg _ _ _ _ p.1.1 c = 0
            rw [kc_sg_out _ _ _ (fun j h1 h2 => by omega)]; exact (i7 c hc).1
          · show kc_sg _ _ _ _ p.1.2.1 c = 0
            rw [kc_sg_out _ _ _ (fun j h1 h2 => by have := kn_l (dy_ic D) j; omega)]; exact (i7 c hc).2
          · show upd p.1.2.2.1 _ _ t = 0
            rw [pk_un (by omega)]; exact i8 t ht
      · refine ⟨p.1.1, sp1, p.1.2.2.1, w, st1, ⟨fun c hc => ⟨(Ip.2.2.2.2.2.2.1 c hc).1, hT c hc⟩, Ip.2.2.2.2.2.2.2⟩, fun post J hp n hn => ?_⟩
        obtain ⟨n, rfl⟩ : ∃ n', n = n' + 1 := ⟨n - 1, by omega⟩
        exact rnd post J n (E0 ok2 _ (br_f (by decide) hp))
end
section
variable {g_made g_blocks g_arrivals g_tip g_pooled : Int32} {b_op b_arg b_length b_ins b_inCoin b_inA b_inB b_outs b_amount b_lock b_parent b_work b_rewardLock b_height b_many b_holds b_delivered b_arrived b_pool b_chain b_again b_chosen : Nat → Int32} {oP tk ic ni nu sc rs nh hd pa he : Nat → Nat} {md bk : Nat}
/-- the blocks of a chain -/
theorem yy_w97 {c : Nat → Nat} {H : Nat} (hH : H < 32) (N : kd_N oP tk ic ni nu sc rs nh hd pa he md bk) (D : ky_D b_op b_arg b_length b_inCoin b_ins b_outs b_lock b_rewardLock b_many b_holds b_parent b_height oP tk ic ni nu sc rs nh hd pa he) (hch : ∀ h, h ≤ H → b_chain h = nI (c h)) (T : kc_ch bk pa he c H) :
    ∀ (m h : Nat) (K : kc_K) (w st : Nat → Int32), h + m = H + 1 → kc_I he h K → (h ≤ H → kc_W ic ni nu b_amount (kf_fit oP b_arg tk ic b_inA b_inB sc rs) nh hd pa he (c h) = kc_blk ic ni nu b_amount (kf_fit oP b_arg tk ic b_inA b_inB sc rs) nh hd (c h) h K) → (h = H + 1 → kc_W ic ni nu b_amount (kf_fit oP b_arg tk ic b_inA b_inB sc rs) nh hd pa he (c H) = some K) → kc_A K w →
    (∀ K', kc_W ic ni nu b_amount (kf_fit oP b_arg tk ic b_inA b_inB sc rs) nh hd pa he (c H) = some K' → ∃ w' st', kc_A K' w' ∧ ∀ (post : Int32 → SY → Prop), post 1 (g_made, g_blocks, g_arrivals, g_tip, g_pooled, nI (H + 1), b_op, b_arg, b_length, b_ins, b_inCoin, b_inA, b_inB, b_outs, b_amount, b_lock, b_parent, b_work, b_rewardLock, b_height, b_many, b_holds, b_delivered, b_arrived, b_pool, b_chain, K'.1, w', K'.2.2.1, K'.2.1, st', b_again, b_chosen) → ∀ n, m < n → wY_walk_97 post n (nI h) g_made g_blocks g_arrivals g_tip g_pooled (nI (H + 1)) b_op b_arg b_length b_ins b_inCoin b_inA b_inB b_outs b_amount b_lock b_parent b_work b_rewardLock b_height b_many b_holds b_delivered b_arrived b_pool b_chain K.1 w K.2.2.1 K.2.1 st b_again b_chosen) ∧
    (kc_W ic ni nu b_amount (kf_fit oP b_arg tk ic b_inA b_inB sc rs) nh hd pa he (c H) = none → ∃ fr sp wi w' st', ky_T fr sp wi ∧ ∀ (post : Int32 → SY → Prop), post 0 (g_made, g_blocks, g_arrivals, g_tip, g_pooled, nI (H + 1), b_op, b_arg, b_length, b_ins, b_inCoin, b_inA, b_inB, b_outs, b_amount, b_lock, b_parent, b_work, b_rewardLock, b_height, b_many, b_holds, b_delivered, b_arrived, b_pool, b_chain, fr, w', wi, sp, st', b_again, b_chosen) → ∀ n, m < n → wY_walk_97 post n (nI h) g_made g_blocks g_arrivals g_tip g_pooled (nI (H + 1)) b_op b_arg b_length b_ins b_inCoin b_inA b_inB b_outs b_amount b_lock b_parent b_work b_rewardLock b_height b_many b_holds b_delivered b_arrived b_pool b_chain K.1 w K.2.2.1 K.2.1 st b_again b_chosen) := by
  intro m
  induction m with
  | zero =>
    intro h K w st e I E0 E1 A
    have e1 := E1 (by omega)
    refine ⟨fun K' ek => ?_, fun ek => (by rw [e1] at ek; exact nomatch ek)⟩
    rw [e1] at ek
    have ek := Option.some.inj ek
    subst ek
    refine ⟨w, st, A, fun post hp n hn => ?_⟩
    obtain ⟨n, rfl⟩ : ∃ n', n = n' + 1 := ⟨n - 1, by omega⟩
    exact pk_le (H + 1) h (fun _ => hp) (fun z => by omega)
  | succ m ih =>
    intro h K w st e I E0 E1 A
    have e0 := E0 (by omega)
    have hc := hch h (by omega)
    have ch := T.1 h (by omega)
    have eh : (nI h).toNatClampNeg = h := nI_clamp (by omega)
    obtain ⟨S1, S0⟩ := yy_w123 (g_made := g_made) (g_blocks := g_blocks) (g_arrivals := g_arrivals) (g_tip := g_tip) (g_pooled := g_pooled) (g_chainLength := nI (H + 1)) (b_op := b_op) (b_arg := b_arg) (b_length := b_length) (b_ins := b_ins) (b_inCoin := b_inCoin) (b_inA := b_inA) (b_inB := b_inB) (b_outs := b_outs) (b_amount := b_amount) (b_lock := b_lock) (b_parent := b_parent) (b_work := b_work) (b_rewardLock := b_rewardLock) (b_height := b_height) (b_many := b_many) (b_holds := b_holds) (b_delivered := b_delivered) (b_arrived := b_arrived) (b_pool := b_pool) (b_chain := b_chain) (b_again := b_again) (b_chosen := b_chosen) ch.1 (show h < 32 by omega) N D hc I (nh (c h)) 0 (K, 0) w st (by omega) rfl A
    have rnd : ∀ (post : Int32 → SY → Prop) (n : Nat), (∃ n', wY_walk_123 post (wY_walk_97 post n) (nI h) n' (kc_base h + 0) (nI (4 * c h + 0)) g_made g_blocks g_arrivals g_tip g_pooled (nI (H + 1)) b_op b_arg b_length b_ins b_inCoin b_inA b_inB b_outs b_amount b_lock b_parent b_work b_rewardLock b_height b_many b_holds b_delivered b_arrived b_pool b_chain K.1 w K.2.2.1 K.2.1 st b_again b_chosen) → wY_walk_97 post (n + 1) (nI h) g_made g_blocks g_arrivals g_tip g_pooled (nI (H + 1)) b_op b_arg b_length b_ins b_inCoin b_inA b_inB b_outs b_amount b_lock b_parent b_work b_rewardLock b_height b_many b_holds b_delivered b_arrived b_pool b_chain K.1 w K.2.2.1 K.2.1 st b_again b_chosen := by
      intro post n W
      refine pk_le (H + 1) h (fun z => by omega) (fun _ => And.intro (by decide) (nm_r (e' := kc_base h + 0) (Int32.add_zero _).symm (And.intro (pk_in h 32 (by omega)) (nm_r (e' := nI (4 * c h + 0)) (by rw [eh, hc]; exact kn_m4 (c h)) W))))
    cases z : kc_blk ic ni nu b_amount (kf_fit oP b_arg tk ic b_inA b_inB sc rs) nh hd (c h) h K with
    | none =>
      have wn : kc_W ic ni nu b_amount (kf_fit oP b_arg tk ic b_inA b_inB sc rs) nh hd pa he (c H) = none := kc_ch_W (kd_T N) T (H - h) h (by omega) (e0.trans z)
      refine ⟨fun K' ek => (by rw [wn] at ek; exact nomatch ek), fun _ => ?_⟩
      obtain ⟨fr, sp, wi, w', st', T', Q⟩ := S0 z
      refine ⟨fr, sp, wi, w', st', T', fun post hp n hn => ?_⟩
      obtain ⟨n, rfl⟩ : ∃ n', n = n' + 1 := ⟨n - 1, by omega⟩
      exact rnd post n ⟨_, Q post _ hp (nh (c h) + 1) (by omega)⟩
    | some K1 =>
      obtain ⟨w1, st1, A1, Q⟩ := S1 K1 z
      have I1 : kc_I he (h + 1) K1 := kc_I_up (kc_blk_I (kd_D N) (by have := kd_bk N; omega) (by omega) (by omega) I z) (by omega)
      obtain ⟨R1, R0⟩ := ih (h + 1) K1 w1 st1 (by omega) I1
        (fun q => by
          have a := T.1 (h + 1) q
          have b := T.2 h (by omega)
          rw [kc_W_s (kc_T_s (kd_T N) a.1 (by omega)), b, e0, z, a.2]; rfl)
        (fun q => by rw [← show h = H by omega]; exact e0.trans z) A1
      refine ⟨fun K' ek => ?_, fun ek => ?_⟩
      · obtain ⟨w', st', A', P⟩ := R1 K' ek
        refine ⟨w', st', A', fun post hp n hn => ?_⟩
        obtain ⟨n, rfl⟩ : ∃ n', n = n' + 1 := ⟨n - 1, by omega⟩
        exact rnd post n ⟨_, Q post _ (P post hp n (by omega)) (nh (c h) + 1) (by omega)⟩
      · obtain ⟨fr, sp, wi, w', st', T', P⟩ := R0 ek
        refine ⟨fr, sp, wi, w', st', T', fun post hp n hn => ?_⟩
        obtain ⟨n, rfl⟩ : ∃ n', n = n' + 1 := ⟨n - 1, by omega⟩
        exact rnd post n ⟨_, Q post _ (P post hp n (by omega)) (nh (c h) + 1) (by omega)⟩
end
section
variable {g_made g_blocks g_arrivals g_tip g_pooled g_chainLength : Int32} {b_op b_arg b_length b_ins b_inCoin b_inA b_inB b_outs b_amount b_lock b_parent b_work b_rewardLock b_height b_many b_holds b_delivered b_arrived b_pool b_from b_worth b_within b_spent b_stack b_again b_chosen : Nat → Int32} {oP tk ic ni nu sc rs nh hd pa he : Nat → Nat} {md bk : Nat}
/-- the chain, from its block down -/
theorem yy_w71 (N : kd_N oP tk ic ni nu sc rs nh hd pa he md bk) (D : ky_D b_op b_arg b_length b_inCoin b_ins b_outs b_lock b_rewardLock b_many b_holds b_parent b_height oP tk ic ni nu sc rs nh hd pa he) : ∀ (h b : Nat) (ch : Nat → Int32), b < bk → he b = h → h < 32 → ∃ c, kc_ch bk pa he c h ∧ c h = b ∧ ∀ (post : Int32 → SY → Prop), (∃ n, wY_walk_97 post n 0 g_made g_blocks g_arrivals g_tip g_pooled g_chainLength b_op b_arg b_length b_ins b_inCoin b_inA b_inB b_outs b_amount b_lock b_parent b_work b_rewardLock b_height b_many b_holds b_delivered b_arrived b_pool (fun j => if j ≤ h then nI (c j) else ch j) b_from b_worth b_within b_spent b_stack b_again b_chosen) → ∀ n, h + 1 < n → wY_walk_71 post g_made g_blocks g_arrivals g_tip g_pooled g_chainLength n (nI b) (nI h) b_op b_arg b_length b_ins b_inCoin b_inA b_inB b_outs b_amount b_lock b_parent b_work b_rewardLock b_height b_many b_holds b_delivered b_arrived b_pool ch b_from b_worth b_within b_spent b_stack b_again b_chosen := by
  intro h
  induction h with
  | zero =>
    intro b ch hb e _
    have b0 : b = 0 := (kc_T_0 (kd_T N) hb).mp e
    subst b0
    refine ⟨fun _ => 0, ⟨fun h hh => ⟨hb, ?_⟩, fun h hh => by omega⟩, rfl, fun post W n hn => ?_⟩
    · rw [e]; omega
    · obtain ⟨n, rfl⟩ : ∃ n', n = n' + 2 := ⟨n - 2, by omega⟩
      have ec : upd ch (nI 0).toNatClampNeg (nI 0) = fun j => if j ≤ 0 then nI 0 else ch j := by
        funext j
        rw [nI_clamp (by omega)]
        by_cases q : j = 0
        · subst q; rw [pk_us, if_pos (Nat.le_refl _)]
        · rw [pk_un q, if_neg (by omega)]
      refine pk_lt 0 0 (fun z => by omega) (fun _ => And.intro (pk_in 0 32 (by omega)) (nm_r ec (And.intro (pk_in 0 33 (by omega)) (nm_r (e' := -1) ?_ (nm_r (e' := -1) (by decide) (br_t kn_m1lt W)))))) rfl rfl
      rw [nI_clamp (by omega)]
      exact dy_p0 D
  | succ h ih =>
    intro b ch hb e h32
    have s := kc_T_s (kd_T N) hb (by omega)
    have p0 : 0 < b := by
      rcases Nat.eq_zero_or_pos b with q | q
      · subst q; rw [(kd_T N).2.2.1] at e; omega
      · exact q
    have b32 := kd_bk N
    obtain ⟨c, C, ce, Q⟩ := ih (pa b) (upd ch (h + 1) (nI b)) (kc_T_p (kd_T N) hb) (by omega) (by omega)
    have cc : ∀ j, j ≤ h → (fun j => if j = h + 1 then b else c j) j = c j := fun j hj => if_neg (by omega)
    have c1 : (fun j => if j = h + 1 then b else c j) (h + 1) = b := if_pos rfl
    refine ⟨fun j => if j = h + 1 then b else c j, ⟨fun j hj => ?_, fun j hj => ?_⟩, c1, fun post W n hn => ?_⟩
    · by_cases q : j = h + 1
      · subst q; rw [c1]; exact ⟨hb, e⟩
      · rw [cc j (by omega)]; exact C.1 j (by omega)
    · rw [cc j (by omega)]
      by_cases q : j = h
      · subst q; rw [c1]; exact ce.symm
      · rw [cc (j + 1) (by omega)]; exact C.2 j (by omega)
    · obtain ⟨n, rfl⟩ : ∃ n', n = n' + 1 := ⟨n - 1, by omega⟩
      have ef : (fun j => if j ≤ h + 1 then nI ((fun j => if j = h + 1 then b else c j) j) else ch j) = (fun j => if j ≤ h then nI (c j) else upd ch (h + 1) (nI b) j) := by
        funext j
        by_cases q : j ≤ h
        · rw [if_pos q, if_pos (by omega), cc j q]
        · rw [if_neg q]
          by_cases q2 : j = h + 1
          · subst q2; rw [if_pos (Nat.le_refl _), c1, pk_us]
          · rw [if_neg (by omega), pk_un q2]
      rw [ef] at W
      refine pk_lt (h + 1) 0 (fun z => by omega) (fun _ => And.intro (pk_in (h + 1) 32 (by omega)) (nm_r (kn_ux (h + 1)) (And.intro (pk_in b 33 (by omega)) (nm_r (e' := nI (pa b)) ?_ (nm_r (pk_m1 h) (Q post W n (by omega))))))) rfl rfl
      rw [nI_clamp (by omega)]
      exact dy_pa D p0
end
section
variable {g_made g_blocks g_arrivals g_tip g_pooled g_chainLength : Int32} {b_op b_arg b_length b_ins b_inCoin b_inA b_inB b_outs b_amount b_lock b_parent b_work b_rewardLock b_height b_many b_holds b_delivered b_arrived b_pool b_chain b_worth b_stack b_again b_chosen : Nat → Int32}
theorem yy_w31 {post : Int32 → SY → Prop} {b : Int32} {fr sp : Nat → Int32} : ∀ (m i : Nat) (f : Nat → Int32) (n : Nat), i + m = 40 → m < n →
    (vp_in b 33 ∧ (∀ f_chainLength_4 : Int32, f_chainLength_4 = (b_height b.toNatClampNeg) + 1 → (vp_in b 33 ∧ (∀ x3_6 : Int32, x3_6 = b_height b.toNatClampNeg → (∃ n71 : Nat, wY_walk_71 post g_made g_blocks g_arrivals g_tip g_pooled f_chainLength_4 n71 b x3_6 b_op b_arg b_length b_ins b_inCoin b_inA b_inB b_outs b_amount b_lock b_parent b_work b_rewardLock b_height b_many b_holds b_delivered b_arrived b_pool b_chain fr b_worth (kc_sg (fun j => j) (fun _ => -1) m i f) sp b_stack b_again b_chosen))))) →
    wY_walk_31 post b g_made g_blocks g_arrivals g_tip g_pooled g_chainLength n (nI i) b_op b_arg b_length b_ins b_inCoin b_inA b_inB b_outs b_amount b_lock b_parent b_work b_rewardLock b_height b_many b_holds b_delivered b_arrived b_pool b_chain fr b_worth f sp b_stack b_again b_chosen := by
  intro m
  induction m with
  | zero =>
    intro i f n e hn hp
    obtain ⟨n, rfl⟩ : ∃ n', n = n' + 1 := ⟨n - 1, by omega⟩
    exact pk_le 40 i (fun _ => hp) (fun z => by omega)
  | succ m ih =>
    intro i f n e hn hp
    obtain ⟨n, rfl⟩ : ∃ n', n = n' + 1 := ⟨n - 1, by omega⟩
    exact pk_le 40 i (fun z => by omega) (fun _ => And.intro (pk_in i 40 (by omega)) (nm_r (kn_ux i) (nm_r (nI_1 i) (ih (i + 1) _ n (by omega) (by omega) hp))))
theorem yy_w2 {post : Int32 → SY → Prop} {b : Int32} {wi : Nat → Int32} : ∀ (m i : Nat) (fr sp : Nat → Int32) (n : Nat), i + m = 152 → m < n →
    (∃ n, wY_walk_31 post b g_made g_blocks g_arrivals g_tip g_pooled g_chainLength n 0 b_op b_arg b_length b_ins b_inCoin b_inA b_inB b_outs b_amount b_lock b_parent b_work b_rewardLock b_height b_many b_holds b_delivered b_arrived b_pool b_chain (kc_sg (fun j => j) (fun _ => -1) m i fr) b_worth wi (kc_sg (fun j => j) (fun _ => 0) m i sp) b_stack b_again b_chosen) →
    wY_walk_2 post b g_made g_blocks g_arrivals g_tip g_pooled g_chainLength n (nI i) b_op b_arg b_length b_ins b_inCoin b_inA b_inB b_outs b_amount b_lock b_parent b_work b_rewardLock b_height b_many b_holds b_delivered b_arrived b_pool b_chain fr b_worth wi sp b_stack b_again b_chosen := by
  intro m
  induction m with
  | zero =>
    intro i fr sp n e hn hp
    obtain ⟨n, rfl⟩ : ∃ n', n = n' + 1 := ⟨n - 1, by omega⟩
    exact pk_le 152 i (fun _ => hp) (fun z => by omega)
  | succ m ih =>
    intro i fr sp n e hn hp
    obtain ⟨n, rfl⟩ : ∃ n', n = n' + 1 := ⟨n - 1, by omega⟩
    exact pk_le 152 i (fun z => by omega) (fun _ => And.intro (pk_in i 152 (by omega)) (nm_r (kn_ux i) (And.intro (pk_in i 152 (by omega)) (nm_r (kn_uv i kn_v0) (nm_r (nI_1 i) (ih (i + 1) _ _ n (by omega) (by omega) hp))))))
end
theorem ky_clr {f : Nat → Int32} {v : Int32} {n : Nat} (h : ∀ c, n ≤ c → f c = 0) : kc_sg (fun j => j) (fun _ => v) n 0 f = fun c => if c < n then v else 0 := by
  funext c
  by_cases z : c < n
  · rw [if_pos z, kc_sg_in _ _ _ ⟨c, by omega, by omega, rfl⟩]
  · rw [if_neg z, kc_sg_out _ _ _ (fun j h1 h2 => by omega)]; exact h c (by omega)
section
variable {g_made g_blocks g_arrivals g_tip g_pooled g_chainLength : Int32} {b_op b_arg b_length b_ins b_inCoin b_inA b_inB b_outs b_amount b_lock b_parent b_work b_rewardLock b_height b_many b_holds b_delivered b_arrived b_pool b_chain b_from b_worth b_within b_spent b_stack b_again b_chosen : Nat → Int32} {oP tk ic ni nu sc rs nh hd pa he : Nat → Nat} {md bk : Nat}
theorem yy_walk {b : Nat} (hb : b < bk) (N : kd_N oP tk ic ni nu sc rs nh hd pa he md bk) (D : ky_D b_op b_arg b_length b_inCoin b_ins b_outs b_lock b_rewardLock b_many b_holds b_parent b_height oP tk ic ni nu sc rs nh hd pa he) (T : ky_T b_from b_spent b_within) :
    (∀ K, kc_W ic ni nu b_amount (kf_fit oP b_arg tk ic b_inA b_inB sc rs) nh hd pa he b = some K → ∃ w' st' c, kc_ch bk pa he c (he b) ∧ c (he b) = b ∧ kc_A K w' ∧ ∀ post : Int32 → SY → Prop, post 1 (g_made, g_blocks, g_arrivals, g_tip, g_pooled, nI (he b + 1), b_op, b_arg, b_length, b_ins, b_inCoin, b_inA, b_inB, b_outs, b_amount, b_lock, b_parent, b_work, b_rewardLock, b_height, b_many, b_holds, b_delivered, b_arrived, b_pool, fun j => if j ≤ he b then nI (c j) else b_chain j, K.1, w', K.2.2.1, K.2.1, st', b_again, b_chosen) → wpY_walk post (g_made, g_blocks, g_arrivals, g_tip, g_pooled, g_chainLength, b_op, b_arg, b_length, b_ins, b_inCoin, b_inA, b_inB, b_outs, b_amount, b_lock, b_parent, b_work, b_rewardLock, b_height, b_many, b_holds, b_delivered, b_arrived, b_pool, b_chain, b_from, b_worth, b_within, b_spent, b_stack, b_again, b_chosen) (nI b)) ∧
    (kc_W ic ni nu b_amount (kf_fit oP b_arg tk ic b_inA b_inB sc rs) nh hd pa he b = none → ∃ cl' ch' fr sp wi w' st', ky_T fr sp wi ∧ ∀ post : Int32 → SY → Prop, post 0 (g_made, g_blocks, g_arrivals, g_tip, g_pooled, cl', b_op, b_arg, b_length, b_ins, b_inCoin, b_inA, b_inB, b_outs, b_amount, b_lock, b_parent, b_work, b_rewardLock, b_height, b_many, b_holds, b_delivered, b_arrived, b_pool, ch', fr, w', wi, sp, st', b_again, b_chosen) → wpY_walk post (g_made, g_blocks, g_arrivals, g_tip, g_pooled, g_chainLength, b_op, b_arg, b_length, b_ins, b_inCoin, b_inA, b_inB, b_outs, b_amount, b_lock, b_parent, b_work, b_rewardLock, b_height, b_many, b_holds, b_delivered, b_arrived, b_pool, b_chain, b_from, b_worth, b_within, b_spent, b_stack, b_again, b_chosen) (nI b)) := by
  have b32 := kd_bk N
  have h32 := kc_T_l (kd_T N) hb
  have e1 : kc_sg (fun j => j) (fun _ => -1) 152 0 b_from = kc_K0.1 := ky_clr (fun c hc => (T.1 c hc).1)
  have e2 : kc_sg (fun j => j) (fun _ => 0) 152 0 b_spent = kc_K0.2.1 := (ky_clr (fun c hc => (T.1 c hc).2)).trans (by funext c; show (if c < 152 then (0 : Int32) else 0) = 0; split <;> rfl)
  have e3 : kc_sg (fun j => j) (fun _ => -1) 40 0 b_within = kc_K0.2.2.1 := ky_clr T.2
  obtain ⟨c, C, ce, Q⟩ := yy_w71 (g_made := g_made) (g_blocks := g_blocks) (g_arrivals := g_arrivals) (g_tip := g_tip) (g_pooled := g_pooled) (g_chainLength := nI (he b + 1)) (b_op := b_op) (b_arg := b_arg) (b_length := b_length) (b_ins := b_ins) (b_inCoin := b_inCoin) (b_inA := b_inA) (b_inB := b_inB) (b_outs := b_outs) (b_amount := b_amount) (b_lock := b_lock) (b_parent := b_parent) (b_work := b_work) (b_rewardLock := b_rewardLock) (b_height := b_height) (b_many := b_many) (b_holds := b_holds) (b_delivered := b_delivered) (b_arrived := b_arrived) (b_pool := b_pool) (b_from := kc_K0.1) (b_worth := b_worth) (b_within := kc_K0.2.2.1) (b_spent := kc_K0.2.1) (b_stack := b_stack) (b_again := b_again) (b_chosen := b_chosen) N D (he b) b b_chain hb rfl h32
  have hch : ∀ h, h ≤ he b → (fun j => if j ≤ he b then nI (c j) else b_chain j) h = nI (c h) := fun h q => if_pos q
  have c0 := C.1 0 (by omega)
  obtain ⟨R1, R0⟩ := yy_w97 (g_made := g_made) (g_blocks := g_blocks) (g_arrivals := g_arrivals) (g_tip := g_tip) (g_pooled := g_pooled) (b_op := b_op) (b_arg := b_arg) (b_length := b_length) (b_ins := b_ins) (b_inCoin := b_inCoin) (b_inA := b_inA) (b_inB := b_inB) (b_outs := b_outs) (b_amount := b_amount) (b_lock := b_lock) (b_parent := b_parent) (b_work := b_work) (b_rewardLock := b_rewardLock) (b_height := b_height) (b_many := b_many) (b_holds := b_holds) (b_delivered := b_delivered) (b_arrived := b_arrived) (b_pool := b_pool) (b_chain := fun j => if j ≤ he b then nI (c j) else b_chain j) (b_again := b_again) (b_chosen := b_chosen) h32 N D hch C (he b + 1) 0 kc_K0 b_worth b_stack (by omega) kc_I_0 (fun _ => kc_W_0 c0.2) (fun q => by omega) (fun c hc z => absurd (show kc_K0.1 c < 0 by show (if c < 152 then (-1 : Int32) else 0) < 0; rw [if_pos hc]; decide) z)
  rw [ce] at R1 R0
  have go : ∀ (post : Int32 → SY → Prop), (∃ n, wY_walk_97 post n 0 g_made g_blocks g_arrivals g_tip g_pooled (nI (he b + 1)) b_op b_arg b_length b_ins b_inCoin b_inA b_inB b_outs b_amount b_lock b_parent b_work b_rewardLock b_height b_many b_holds b_delivered b_arrived b_pool (fun j => if j ≤ he b then nI (c j) else b_chain j) kc_K0.1 b_worth kc_K0.2.2.1 kc_K0.2.1 b_stack b_again b_chosen) → wpY_walk post (g_made, g_blocks, g_arrivals, g_tip, g_pooled, g_chainLength, b_op, b_arg, b_length, b_ins, b_inCoin, b_inA, b_inB, b_outs, b_amount, b_lock, b_parent, b_work, b_rewardLock, b_height, b_many, b_holds, b_delivered, b_arrived, b_pool, b_chain, b_from, b_worth, b_within, b_spent, b_stack, b_again, b_chosen) (nI b) := by
    intro post W
    refine ⟨153, yy_w2 152 0 b_from b_spent _ rfl (by omega) ⟨41, yy_w31 40 0 b_within _ rfl (by omega) ?_⟩⟩
    rw [e1, e2, e3]
    have eh := kn_at (dy_he D) b
    exact And.intro (pk_in b 33 (by omega)) (nm_r (e' := nI (he b + 1)) (by rw [eh, nI_1]) (And.intro (pk_in b 33 (by omega)) (nm_r eh ⟨he b + 2, Q post W _ (by omega)⟩)))
  refine ⟨fun K ek => ?_, fun ek => ?_⟩
  · obtain ⟨w', st', A', P⟩ := R1 K ek
    exact ⟨w', st', c, C, ce, A', fun post hp => go post ⟨he b + 2, P post hp _ (by omega)⟩⟩
  · obtain ⟨fr, sp, wi, w', st', T', P⟩ := R0 ek
    exact ⟨_, _, fr, sp, wi, w', st', T', fun post hp => go post ⟨he b + 2, P post hp _ (by omega)⟩⟩
end
end
section
/-! ===== X: blocks come and go ===== -/
theorem kc_txs_new {ic ni nu : Nat → Nat} {am : Nat → Int32} {fit : Nat → Int32 → Int32 → Bool} {hd : Nat → Nat} {b h : Nat} {K : kc_K} (D : kc_D ic ni nu hd) (n : K.1 (120 + b) = -1) : ∀ (j : Nat) (p : kc_K × Int32), kc_txs ic ni nu am fit hd b h j K = some p → p.1.1 (120 + b) = -1 := by
  intro j
  induction j with
  | zero =>
    intro p e
    have e' : some (K, (0 : Int32)) = some p := e
    rw [← Option.some.inj e']; exact n
  | succ j ih =>
    intro p e
    obtain ⟨q, e1, e2, e3⟩ := kc_txs_i e
    rw [e3]
    have d := D.2.2.1 (hd (4 * b + j))
    have d4 := D.2.2.2 (4 * b + j)
    show kc_sg _ _ _ _ q.1.1 (120 + b) = -1
    rw [kc_sg_out _ _ _ (fun j h1 h2 => by omega)]
    exact ih q e1
section
variable {f_made f_blocks f_arrivals f_top f_many f_agains f_feeNow : Int32} {a_op a_number a_tokens a_used a_timed a_stack a_inCoin a_inA a_inB a_ins a_amount a_script a_outs a_fitting a_parent a_height a_work a_holds a_held a_rewardScript a_reward a_delivered a_arrival a_right a_wrong a_chain a_row a_fees a_taker a_again a_before : Nat → Int32} {oP tk ic ni nu sc rs nh hd pa he : Nat → Nat} {md bk : Nat} {K : kc_K}
theorem xx_c54 {post : Int32 → SX → Prop} {b h : Nat} (hb : b < bk) (b0 : 0 < b) (hh : h < 32) (N : kd_N oP tk ic ni nu sc rs nh hd pa he md bk) (D : kx_D a_op a_number a_tokens a_timed a_inCoin a_ins a_outs a_script a_rewardScript a_holds a_held a_parent a_height oP tk ic ni nu sc rs nh hd pa he) (I : kc_I he h K) (hp : post 0 (f_made, f_blocks, f_arrivals, f_top, f_many, f_agains, f_feeNow, a_op, a_number, a_tokens, a_used, a_timed, a_stack, a_inCoin, a_inA, a_inB, a_ins, a_amount, a_script, a_outs, a_fitting, a_parent, a_height, a_work, a_holds, a_held, a_rewardScript, a_reward, a_delivered, a_arrival, a_right, a_wrong, a_chain, K.1, K.2.1, K.2.2.1, a_row, a_fees, a_taker, a_again, a_before)) :
    ∀ (j : Nat) (p : kc_K × Int32), j ≤ nh b → kc_txs ic ni nu a_amount (kf_fit oP a_number tk ic a_inA a_inB sc rs) hd b h j K = some p → ∀ n, j < n → wX_connect_54 post (nI b) n (nI (4 * b + j - 1)) f_made f_blocks f_arrivals f_top f_many f_agains f_feeNow a_op a_number a_tokens a_used a_timed a_stack a_inCoin a_inA a_inB a_ins a_amount a_script a_outs a_fitting a_parent a_height a_work a_holds a_held a_rewardScript a_reward a_delivered a_arrival a_right a_wrong a_chain p.1.1 p.1.2.1 p.1.2.2.1 a_row a_fees a_taker a_again a_before := by
  have b32 := kd_bk N
  have d := kn_l (dx_nh D) b
  have e4 : (4 : Int32) * nI b = nI (4 * b) := kn_m4 b
  intro j
  induction j with
  | zero =>
    intro p _ e n hn
    obtain ⟨n, rfl⟩ : ∃ n', n = n' + 1 := ⟨n - 1, by omega⟩
    have e' : some (K, (0 : Int32)) = some p := e
    rw [← Option.some.inj e']
    exact pk_lt (4 * b + 0 - 1) (4 * b) (fun _ => hp) (fun z => by omega) rfl e4
  | succ j ih =>
    intro p hj e n hn
    obtain ⟨n, rfl⟩ : ∃ n', n = n' + 1 := ⟨n - 1, by omega⟩
    obtain ⟨q, e1, e2, e3⟩ := kc_txs_i e
    have hq := kd_hd N hb (show j < nh b by omega)
    have m40 := kd_md N
    have Iq := kc_txs_I (kd_D N) (by omega) I _ _ e1
    have ei : 4 * b + (j + 1) - 1 = 4 * b + j := by omega
    rw [e3, ei]
    refine pk_lt (4 * b + j) (4 * b) (fun z => by omega) (fun _ => And.intro (pk_in (4 * b + j) 132 (by omega)) ?_) rfl e4
    rw [kn_at (dx_hd D) (4 * b + j)]
    refine xx_unspend (by omega) D ?_
    dsimp only
    rw [kc_un_F (kd_D N) (by omega) (by omega) Iq e2, kc_un_S e2, kc_un_W (by omega) (by omega) Iq e2]
    refine nm_r (e' := nI (4 * b + j - 1)) ?_ (ih q (by omega) e1 n (by omega))
    rw [show 4 * b + j = (4 * b + j - 1) + 1 by omega]
    exact pk_m1 _
theorem xx_t13 {post : SX → Prop} {b h tp : Nat} {v : Int32} (hb : b < bk) (b0 : 0 < b) (hh : h < 32) (N : kd_N oP tk ic ni nu sc rs nh hd pa he md bk) (D : kx_D a_op a_number a_tokens a_timed a_inCoin a_ins a_outs a_script a_rewardScript a_holds a_held a_parent a_height oP tk ic ni nu sc rs nh hd pa he) (I : kc_I he h K) (nw : K.1 (120 + b) = -1) (hp : post (f_made, f_blocks, f_arrivals, nI tp, f_many, f_agains, f_feeNow, a_op, a_number, a_tokens, a_used, a_timed, a_stack, a_inCoin, a_inA, a_inB, a_ins, a_amount, a_script, a_outs, a_fitting, a_parent, a_height, a_work, a_holds, a_held, a_rewardScript, a_reward, a_delivered, a_arrival, a_right, a_wrong, a_chain, K.1, K.2.1, K.2.2.1, a_row, a_fees, a_taker, a_again, a_before)) :
    ∀ (j : Nat) (p : kc_K × Int32), j ≤ nh b → kc_txs ic ni nu a_amount (kf_fit oP a_number tk ic a_inA a_inB sc rs) hd b h j K = some p → ∀ n, j < n → wX_takeBack_13 post (nI b) n (nI (4 * b + j - 1)) f_made f_blocks f_arrivals (nI (tp + 1)) f_many f_agains f_feeNow a_op a_number a_tokens a_used a_timed a_stack a_inCoin a_inA a_inB a_ins a_amount a_script a_outs a_fitting a_parent a_height a_work a_holds a_held a_rewardScript a_reward a_delivered a_arrival a_right a_wrong a_chain (upd p.1.1 (120 + b) v) p.1.2.1 p.1.2.2.1 a_row a_fees a_taker a_again a_before := by
  have b32 := kd_bk N
  have d := kn_l (dx_nh D) b
  have e4 : (4 : Int32) * nI b = nI (4 * b) := kn_m4 b
  have e120 : 120 + nI b = nI (120 + b) := nI_add 120 b
  intro j
  induction j with
  | zero =>
    intro p _ e n hn
    obtain ⟨n, rfl⟩ : ∃ n', n = n' + 1 := ⟨n - 1, by omega⟩
    have e' : some (K, (0 : Int32)) = some p := e
    rw [← Option.some.inj e']
    refine pk_lt (4 * b + 0 - 1) (4 * b) (fun _ => And.intro (pk_in (120 + b) 152 (by omega) e120) (nm_r (e' := K.1) ?_ (nm_r (nI_pred tp) hp))) (fun z => by omega) rfl e4
    rw [kn_uv (120 + b) kn_vm1 e120, kn_uu]
    exact kn_ui nw
  | succ j ih =>
    intro p hj e n hn
    obtain ⟨n, rfl⟩ : ∃ n', n = n' + 1 := ⟨n - 1, by omega⟩
    obtain ⟨q, e1, e2, e3⟩ := kc_txs_i e
    have hq := kd_hd N hb (show j < nh b by omega)
    have m40 := kd_md N
    have d3 := kn_l (dx_nu D) (hd (4 * b + j))
    have Iq := kc_txs_I (kd_D N) (by omega) I _ _ e1
    have ei : 4 * b + (j + 1) - 1 = 4 * b + j := by omega
    rw [e3, ei]
    refine pk_lt (4 * b + j) (4 * b) (fun z => by omega) (fun _ => And.intro (pk_in (4 * b + j) 132 (by omega)) ?_) rfl e4
    rw [kn_at (dx_hd D) (4 * b + j)]
    refine xx_unspend (by omega) D ?_
    dsimp only
    rw [kc_sg_uc _ _ _ (fun j h1 h2 => by omega), kc_un_F (kd_D N) (by omega) (by omega) Iq e2, kc_un_S e2, kc_un_W (by omega) (by omega) Iq e2]
    refine nm_r (e' := nI (4 * b + j - 1)) ?_ (ih q (by omega) e1 n (by omega))
    rw [show 4 * b + j = (4 * b + j - 1) + 1 by omega]
    exact pk_m1 _
/-- the top block is taken back -/
theorem xx_takeBack {post : SX → Prop} {b h tp : Nat} {K' : kc_K} (hb : b < bk) (b0 : 0 < b) (hh : h < 32) (N : kd_N oP tk ic ni nu sc rs nh hd pa he md bk) (D : kx_D a_op a_number a_tokens a_timed a_inCoin a_ins a_outs a_script a_rewardScript a_holds a_held a_parent a_height oP tk ic ni nu sc rs nh hd pa he) (I : kc_I he h K) (nw : K.1 (120 + b) = -1) (e : kc_blk ic ni nu a_amount (kf_fit oP a_number tk ic a_inA a_inB sc rs) nh hd b h K = some K') (hp : post (f_made, f_blocks, f_arrivals, nI tp, f_many, f_agains, f_feeNow, a_op, a_number, a_tokens, a_used, a_timed, a_stack, a_inCoin, a_inA, a_inB, a_ins, a_amount, a_script, a_outs, a_fitting, a_parent, a_height, a_work, a_holds, a_held, a_rewardScript, a_reward, a_delivered, a_arrival, a_right, a_wrong, a_chain, K.1, K.2.1, K.2.2.1, a_row, a_fees, a_taker, a_again, a_before)) :
    wpX_takeBack post (f_made, f_blocks, f_arrivals, nI (tp + 1), f_many, f_agains, f_feeNow, a_op, a_number, a_tokens, a_used, a_timed, a_stack, a_inCoin, a_inA, a_inB, a_ins, a_amount, a_script, a_outs, a_fitting, a_parent, a_height, a_work, a_holds, a_held, a_rewardScript, a_reward, a_delivered, a_arrival, a_right, a_wrong, a_chain, K'.1, K'.2.1, K'.2.2.1, a_row, a_fees, a_taker, a_again, a_before) (nI b) := by
  have b32 := kd_bk N
  have d := kn_l (dx_nh D) b
  obtain ⟨p, e1, e2⟩ := kc_blk_some e
  subst e2
  refine And.intro (pk_in b 33 (by omega)) (nm_r (e' := nI (4 * b + nh b - 1)) ?_ ⟨nh b + 1, xx_t13 hb b0 hh N D I nw hp (nh b) p (Nat.le_refl _) e1 _ (by omega)⟩)
  rw [kn_e4 (dx_nh D) b]
  exact pk_sub (b := 1) (by omega)
end
section
variable {f_made f_blocks f_arrivals f_many f_agains : Int32} {a_op a_number a_tokens a_used a_timed a_inCoin a_inA a_inB a_ins a_amount a_script a_outs a_parent a_height a_work a_holds a_held a_rewardScript a_reward a_delivered a_arrival a_right a_wrong a_chain a_row a_fees a_taker a_again a_before : Nat → Int32} {oP tk ic ni nu sc rs nh hd pa he : Nat → Nat} {md bk : Nat} {K : kc_K}
theorem xx_c14 {b h : Nat} {tp : Int32} (hb : b < bk) (b0 : 0 < b) (hh : h < 32) (N : kd_N oP tk ic ni nu sc rs nh hd pa he md bk) (D : kx_D a_op a_number a_tokens a_timed a_inCoin a_ins a_outs a_script a_rewardScript a_holds a_held a_parent a_height oP tk ic ni nu sc rs nh hd pa he) (I : kc_I he h K) (nw : K.1 (120 + b) = -1) :
    ∀ (m j : Nat) (p : kc_K × Int32) (fe : Int32) (st fi : Nat → Int32), j + m = nh b → kc_txs ic ni nu a_amount (kf_fit oP a_number tk ic a_inA a_inB sc rs) hd b h j K = some p → kc_A p.1 (kc_av a_amount a_reward) → kf_C md ni a_timed (fun i => kx_s sc rs (ic i)) (kf_fit oP a_number tk ic a_inA a_inB sc rs) fi →
    ∃ fe' st' fi', kf_C md ni a_timed (fun i => kx_s sc rs (ic i)) (kf_fit oP a_number tk ic a_inA a_inB sc rs) fi' ∧
    (∀ K', kc_blk ic ni nu a_amount (kf_fit oP a_number tk ic a_inA a_inB sc rs) nh hd b h K = some K' → kc_A K' (kc_av a_amount (upd a_reward b (K'.2.2.2 (120 + b)))) ∧ ∀ post : Int32 → SX → Prop, post 1 (f_made, f_blocks, f_arrivals, nI h, f_many, f_agains, fe', a_op, a_number, a_tokens, a_used, a_timed, st', a_inCoin, a_inA, a_inB, a_ins, a_amount, a_script, a_outs, fi', a_parent, a_height, a_work, a_holds, a_held, a_rewardScript, upd a_reward b (K'.2.2.2 (120 + b)), a_delivered, a_arrival, upd a_right b 1, a_wrong, upd a_chain h (nI b), K'.1, K'.2.1, K'.2.2.1, a_row, a_fees, a_taker, a_again, a_before) → ∀ n, m < n → wX_connect_14 post (nI b) (nI h) n p.2 (nI (4 * b + j)) f_made f_blocks f_arrivals tp f_many f_agains fe a_op a_number a_tokens a_used a_timed st a_inCoin a_inA a_inB a_ins a_amount a_script a_outs fi a_parent a_height a_work a_holds a_held a_rewardScript a_reward a_delivered a_arrival a_right a_wrong a_chain p.1.1 p.1.2.1 p.1.2.2.1 a_row a_fees a_taker a_again a_before) ∧
    (kc_blk ic ni nu a_amount (kf_fit oP a_number tk ic a_inA a_inB sc rs) nh hd b h K = none → ∀ post : Int32 → SX → Prop, post 0 (f_made, f_blocks, f_arrivals, tp, f_many, f_agains, fe', a_op, a_number, a_tokens, a_used, a_timed, st', a_inCoin, a_inA, a_inB, a_ins, a_amount, a_script, a_outs, fi', a_parent, a_height, a_work, a_holds, a_held, a_rewardScript, a_reward, a_delivered, a_arrival, a_right, a_wrong, a_chain, K.1, K.2.1, K.2.2.1, a_row, a_fees, a_taker, a_again, a_before) → ∀ n, m < n → wX_connect_14 post (nI b) (nI h) n p.2 (nI (4 * b + j)) f_made f_blocks f_arrivals tp f_many f_agains fe a_op a_number a_tokens a_used a_timed st a_inCoin a_inA a_inB a_ins a_amount a_script a_outs fi a_parent a_height a_work a_holds a_held a_rewardScript a_reward a_delivered a_arrival a_right a_wrong a_chain p.1.1 p.1.2.1 p.1.2.2.1 a_row a_fees a_taker a_again a_before) := by
  have b32 := kd_bk N
  have d := kn_l (dx_nh D) b
  have e4 := kn_e4 (dx_nh D) b
  have e120 : 120 + nI b = nI (120 + b) := nI_add 120 b
  intro m
  induction m with
  | zero =>
    intro j p fe st fi e ep A C
    have ej : j = nh b := by omega
    subst ej
    refine ⟨fe, st, fi, C, fun K' ek => ?_, fun ek => (by rw [kc_blk_t ep] at ek; exact nomatch ek)⟩
    rw [kc_blk_t ep] at ek
    have ek := Option.some.inj ek
    subst ek
    have ew : (kc_fin b h p).2.2.2 (120 + b) = kc_base h + p.2 := pk_us
    rw [ew]
    refine ⟨kc_A_finX A, fun post hp n hn => ?_⟩
    obtain ⟨n, rfl⟩ : ∃ n', n = n' + 1 := ⟨n - 1, by omega⟩
    have Ip := kc_txs_I (kd_D N) (by omega) I _ _ ep
    have np := kc_txs_new (kd_D N) nw _ _ ep
    have es : upd p.1.2.1 (120 + nI b).toNatClampNeg (vp_nar .boolean 0) = p.1.2.1 := by
      rw [kn_uv (120 + b) kn_v0 e120]
      exact kn_ui (Ip.2.2.1 (120 + b) (by omega) np)
    exact And.intro (pk_in b 33 (by omega)) (pk_le (4 * b + nh b) (4 * b + nh b) (fun _ => And.intro (pk_in h 32 hh) (nm_r (kn_uv h (kn_vb2 b)) (And.intro (pk_in (120 + b) 152 (by omega) e120) (nm_r (kn_uv (120 + b) (kn_vb2 h) e120) (And.intro (pk_in (120 + b) 152 (by omega) e120) (nm_r es (And.intro (by decide) (And.intro (pk_in b 32 (by omega)) (nm_r (kn_ux b) (And.intro (pk_in b 32 (by omega)) (nm_r (kn_uv b kn_v1) hp))))))))))) (fun z => by omega) e4)
  | succ m ih =>
    intro j p fe st fi e ep A C
    have Ip := kc_txs_I (kd_D N) (by omega) I _ _ ep
    have hdj := kd_hd N hb (show j < nh b by omega)
    have m40 := kd_md N
    have ehd := kn_at (dx_hd D) (4 * b + j)
    obtain ⟨fe1, st1, fi1, C1, E1, E0⟩ := xx_spends (f_made := f_made) (f_blocks := f_blocks) (f_arrivals := f_arrivals) (f_top := tp) (f_many := f_many) (f_agains := f_agains) (f_feeNow := fe) (a_op := a_op) (a_number := a_number) (a_tokens := a_tokens) (a_used := a_used) (a_timed := a_timed) (a_stack := st) (a_inCoin := a_inCoin) (a_inA := a_inA) (a_inB := a_inB) (a_ins := a_ins) (a_amount := a_amount) (a_script := a_script) (a_outs := a_outs) (a_fitting := fi) (a_parent := a_parent) (a_height := a_height) (a_work := a_work) (a_holds := a_holds) (a_held := a_held) (a_rewardScript := a_rewardScript) (a_reward := a_reward) (a_delivered := a_delivered) (a_arrival := a_arrival) (a_right := a_right) (a_wrong := a_wrong) (a_chain := a_chain) (a_row := a_row) (a_fees := a_fees) (a_taker := a_taker) (a_again := a_again) (a_before := a_before) hdj (show h < 100 by omega) N D Ip A C
    have rnd : ∀ (post : Int32 → SX → Prop) (n : Nat), wpX_spends (fun r u => match u with | (f_made, f_blocks, f_arrivals, f_top, f_many, f_agains, f_feeNow, a_op, a_number, a_tokens, a_used, a_timed, a_stack, a_inCoin, a_inA, a_inB, a_ins, a_amount, a_script, a_outs, a_fitting, a_parent, a_height, a_work, a_holds, a_held, a_rewardScript, a_reward, a_delivered, a_arrival, a_right, a_wrong, a_chain, a_born, a_spent, a_since, a_row, a_fees, a_taker, a_again, a_before) => ((r = 0 → (∀ x6 : Int32, x6 = nI (4 * b + j) - 1 → (∃ n54 : Nat, wX_connect_54 post (nI b) n54 x6 f_made f_blocks f_arrivals f_top f_many f_agains f_feeNow a_op a_number a_tokens a_used a_timed a_stack a_inCoin a_inA a_inB a_ins a_amount a_script a_outs a_fitting a_parent a_height a_work a_holds a_held a_rewardScript a_reward a_delivered a_arrival a_right a_wrong a_chain a_born a_spent a_since a_row a_fees a_taker a_again a_before))) ∧ (¬ r = 0 → (∀ x3 : Int32, x3 = p.2 + f_feeNow → (∀ x4 : Int32, x4 = nI (4 * b + j) + 1 → (wX_connect_14 post (nI b) (nI h) n x3 x4 f_made f_blocks f_arrivals f_top f_many f_agains f_feeNow a_op a_number a_tokens a_used a_timed a_stack a_inCoin a_inA a_inB a_ins a_amount a_script a_outs a_fitting a_parent a_height a_work a_holds a_held a_rewardScript a_reward a_delivered a_arrival a_right a_wrong a_chain a_born a_spent a_since a_row a_fees a_taker a_again a_before)))))) (f_made, f_blocks, f_arrivals, tp, f_many, f_agains, fe, a_op, a_number, a_tokens, a_used, a_timed, st, a_inCoin, a_inA, a_inB, a_ins, a_amount, a_script, a_outs, fi, a_parent, a_height, a_work, a_holds, a_held, a_rewardScript, a_reward, a_delivered, a_arrival, a_right, a_wrong, a_chain, p.1.1, p.1.2.1, p.1.2.2.1, a_row, a_fees, a_taker, a_again, a_before) (nI (hd (4 * b + j))) (nI h) → wX_connect_14 post (nI b) (nI h) (n + 1) p.2 (nI (4 * b + j)) f_made f_blocks f_arrivals tp f_many f_agains fe a_op a_number a_tokens a_used a_timed st a_inCoin a_inA a_inB a_ins a_amount a_script a_outs fi a_parent a_height a_work a_holds a_held a_rewardScript a_reward a_delivered a_arrival a_right a_wrong a_chain p.1.1 p.1.2.1 p.1.2.2.1 a_row a_fees a_taker a_again a_before := by
      intro post n W
      refine And.intro (pk_in b 33 (by omega)) (pk_le (4 * b + nh b) (4 * b + j) (fun z => by omega) (fun _ => And.intro (pk_in (4 * b + j) 132 (by omega)) ?_) e4)
      rw [ehd]
      exact W
    by_cases ok : kc_okT ic ni nu a_amount (kf_fit oP a_number tk ic a_inA a_inB sc rs) (hd (4 * b + j)) h p.1
    · obtain ⟨ef, W1⟩ := E1 ok
      have s := (kc_txs_s ep).trans (kc_tx1_t ok)
      obtain ⟨fe', st', fi', C', S1, S0⟩ := ih (j + 1) _ fe1 st1 fi1 (by omega) s (kc_A_doX (kd_D N) (by omega) A) C1
      refine ⟨fe', st', fi', C', fun K' ek => ?_, fun ek post hp n hn => ?_⟩
      · obtain ⟨A', Q⟩ := S1 K' ek
        refine ⟨A', fun post hp n hn => ?_⟩
        obtain ⟨n, rfl⟩ : ∃ n', n = n' + 1 := ⟨n - 1, by omega⟩
        refine rnd post n (W1 _ ?_)
        exact br_f kn_10 (nm_r (congrArg (p.2 + ·) ef) (nm_r (nI_1 (4 * b + j)) (Q post hp n (by omega))))
      · obtain ⟨n, rfl⟩ : ∃ n', n = n' + 1 := ⟨n - 1, by omega⟩
        refine rnd post n (W1 _ ?_)
        exact br_f kn_10 (nm_r (congrArg (p.2 + ·) ef) (nm_r (nI_1 (4 * b + j)) (S0 ek post hp n (by omega))))
    · have s := (kc_txs_s ep).trans (kc_tx1_f ok)
      have bn : kc_blk ic ni nu a_amount (kf_fit oP a_number tk ic a_inA a_inB sc rs) nh hd b h K = none := kc_blk_f s (by omega)
      refine ⟨fe1, st1, fi1, C1, fun K' ek => (by rw [bn] at ek; exact nomatch ek), fun _ post hp n hn => ?_⟩
      obtain ⟨n, rfl⟩ : ∃ n', n = n' + 1 := ⟨n - 1, by omega⟩
      refine rnd post n (E0 ok _ ?_)
      exact br_t rfl (nm_r (e' := nI (4 * b + j - 1)) (pk_sub (b := 1) (by omega)) ⟨j + 1, xx_c54 hb b0 hh N D I hp j p (by omega) ep _ (by omega)⟩)
theorem xx_connect {b tp : Nat} {fe : Int32} {st fi : Nat → Int32} (hb : b < bk) (b0 : 0 < b) (ht : tp + 1 < 32) (N : kd_N oP tk ic ni nu sc rs nh hd pa he md bk) (D : kx_D a_op a_number a_tokens a_timed a_inCoin a_ins a_outs a_script a_rewardScript a_holds a_held a_parent a_height oP tk ic ni nu sc rs nh hd pa he) (I : kc_I he (tp + 1) K) (nw : K.1 (120 + b) = -1) (A : kc_A K (kc_av a_amount a_reward)) (C : kf_C md ni a_timed (fun i => kx_s sc rs (ic i)) (kf_fit oP a_number tk ic a_inA a_inB sc rs) fi) :
    ∃ fe' st' fi', kf_C md ni a_timed (fun i => kx_s sc rs (ic i)) (kf_fit oP a_number tk ic a_inA a_inB sc rs) fi' ∧
    (∀ K', kc_blk ic ni nu a_amount (kf_fit oP a_number tk ic a_inA a_inB sc rs) nh hd b (tp + 1) K = some K' → kc_A K' (kc_av a_amount (upd a_reward b (K'.2.2.2 (120 + b)))) ∧ ∀ post : Int32 → SX → Prop, post 1 (f_made, f_blocks, f_arrivals, nI (tp + 1), f_many, f_agains, fe', a_op, a_number, a_tokens, a_used, a_timed, st', a_inCoin, a_inA, a_inB, a_ins, a_amount, a_script, a_outs, fi', a_parent, a_height, a_work, a_holds, a_held, a_rewardScript, upd a_reward b (K'.2.2.2 (120 + b)), a_delivered, a_arrival, upd a_right b 1, a_wrong, upd a_chain (tp + 1) (nI b), K'.1, K'.2.1, K'.2.2.1, a_row, a_fees, a_taker, a_again, a_before) → wpX_connect post (f_made, f_blocks, f_arrivals, nI tp, f_many, f_agains, fe, a_op, a_number, a_tokens, a_used, a_timed, st, a_inCoin, a_inA, a_inB, a_ins, a_amount, a_script, a_outs, fi, a_parent, a_height, a_work, a_holds, a_held, a_rewardScript, a_reward, a_delivered, a_arrival, a_right, a_wrong, a_chain, K.1, K.2.1, K.2.2.1, a_row, a_fees, a_taker, a_again, a_before) (nI b)) ∧
    (kc_blk ic ni nu a_amount (kf_fit oP a_number tk ic a_inA a_inB sc rs) nh hd b (tp + 1) K = none → ∀ post : Int32 → SX → Prop, post 0 (f_made, f_blocks, f_arrivals, nI tp, f_many, f_agains, fe', a_op, a_number, a_tokens, a_used, a_timed, st', a_inCoin, a_inA, a_inB, a_ins, a_amount, a_script, a_outs, fi', a_parent, a_height, a_work, a_holds, a_held, a_rewardScript, a_reward, a_delivered, a_arrival, a_right, a_wrong, a_chain, K.1, K.2.1, K.2.2.1, a_row, a_fees, a_taker, a_again, a_before) → wpX_connect post (f_made, f_blocks, f_arrivals, nI tp, f_many, f_agains, fe, a_op, a_number, a_tokens, a_used, a_timed, st, a_inCoin, a_inA, a_inB, a_ins, a_amount, a_script, a_outs, fi, a_parent, a_height, a_work, a_holds, a_held, a_rewardScript, a_reward, a_delivered, a_arrival, a_right, a_wrong, a_chain, K.1, K.2.1, K.2.2.1, a_row, a_fees, a_taker, a_again, a_before) (nI b)) := by
  obtain ⟨fe', st', fi', C', S1, S0⟩ := xx_c14 (f_made := f_made) (f_blocks := f_blocks) (f_arrivals := f_arrivals) (f_many := f_many) (f_agains := f_agains) (a_op := a_op) (a_number := a_number) (a_tokens := a_tokens) (a_used := a_used) (a_timed := a_timed) (a_inCoin := a_inCoin) (a_inA := a_inA) (a_inB := a_inB) (a_ins := a_ins) (a_amount := a_amount) (a_script := a_script) (a_outs := a_outs) (a_parent := a_parent) (a_height := a_height) (a_work := a_work) (a_holds := a_holds) (a_held := a_held) (a_rewardScript := a_rewardScript) (a_reward := a_reward) (a_delivered := a_delivered) (a_arrival := a_arrival) (a_right := a_right) (a_wrong := a_wrong) (a_chain := a_chain) (a_row := a_row) (a_fees := a_fees) (a_taker := a_taker) (a_again := a_again) (a_before := a_before) (tp := nI tp) hb b0 ht N D I nw (nh b) 0 (K, 0) fe st fi (by omega) rfl A C
  refine ⟨fe', st', fi', C', fun K' ek => ?_, fun ek post hp => ?_⟩
  · obtain ⟨A', Q⟩ := S1 K' ek
    exact ⟨A', fun post hp => nm_r (nI_1 tp) (nm_r (kn_m4 b) ⟨nh b + 1, Q post hp _ (by omega)⟩)⟩
  · exact nm_r (nI_1 tp) (nm_r (kn_m4 b) ⟨nh b + 1, S0 ek post hp _ (by omega)⟩)
end
end
section
/-! ===== X: spoil, reorganise ===== -/
def kx_V (W : Nat → Option kc_K) (bk : Nat) (rw rg wr : Nat → Int32) : Prop :=
  (∀ b, rg b = 0 ∨ (rg b = 1 ∧ b < bk ∧ ∃ K, W b = some K ∧ rw b = K.2.2.2 (120 + b))) ∧ (∀ b, wr b = 0 ∨ (wr b = 1 ∧ b < bk ∧ W b = none))
def kx_Z (W : Nat → Option kc_K) (bk : Nat) (pa he : Nat → Nat) (am rw rg : Nat → Int32) (ch : Nat → Nat) (tp : Nat) (K : kc_K) : Prop :=
  kc_ch bk pa he ch tp ∧ W (ch tp) = some K ∧ kc_A K (kc_av am rw) ∧ ∀ h, h ≤ tp → rg (ch h) = 1
def kx_O (W : Nat → Option kc_K) (bk : Nat) (pa he : Nat → Nat) (am : Nat → Int32) (b : Nat) (rg wr : Nat → Int32) (tp' : Nat) (cn' : Nat → Int32) (ch' : Nat → Nat) (K' : kc_K) (rw' rg' wr' : Nat → Int32) : Prop :=
  kn_H cn' ch' 32 ∧ kx_Z W bk pa he am rw' rg' ch' tp' K' ∧ kx_V W bk rw' rg' wr' ∧ (∀ c, rg c = 1 → rg' c = 1) ∧ (∀ c, wr c = 1 → wr' c = 1) ∧ ((ch' tp' = b ∧ wr' = wr) ∨ (W b = none ∧ wr' b = 1))
theorem kc_ch_ex {bk : Nat} {pa he : Nat → Nat} (T : kc_T bk pa he) : ∀ h b, he b = h → b < bk → ∃ c, kc_ch bk pa he c h ∧ c h = b := by
  intro h
  induction h with
  | zero =>
    intro b e hb
    exact ⟨fun _ => b, ⟨fun h hh => ⟨hb, by rw [e]; omega⟩, fun h hh => by omega⟩, rfl⟩
  | succ h ih =>
    intro b e hb
    have s := kc_T_s T hb (by omega)
    obtain ⟨c, C, ce⟩ := ih (pa b) (by omega) (kc_T_p T hb)
    have cc : ∀ j, j ≤ h → kn_u c (h + 1) b j = c j := fun j hj => kn_un (by omega)
    refine ⟨kn_u c (h + 1) b, ⟨fun j hj => ?_, fun j hj => ?_⟩, kn_us⟩
    · by_cases q : j = h + 1
      · subst q; rw [kn_us]; exact ⟨hb, e⟩
      · rw [cc j (by omega)]; exact C.1 j (by omega)
    · rw [cc j (by omega)]
      by_cases q : j = h
      · subst q; rw [kn_us]; exact ce.symm
      · rw [cc (j + 1) (by omega)]; exact C.2 j (by omega)
theorem kc_ch_d {bk : Nat} {pa he c : Nat → Nat} {H h : Nat} (C : kc_ch bk pa he c H) (hh : h ≤ H) : kc_ch bk pa he c h := ⟨fun j q => C.1 j (by omega), fun j q => C.2 j (by omega)⟩
theorem kc_ch_s {bk : Nat} {pa he c : Nat → Nat} {H b : Nat} (C : kc_ch bk pa he c H) (hb : b < bk) (e : he b = H + 1) (p : pa b = c H) : kc_ch bk pa he (kn_u c (H + 1) b) (H + 1) := by
  have cc : ∀ j, j ≤ H → kn_u c (H + 1) b j = c j := fun j hj => kn_un (by omega)
  refine ⟨fun j hj => ?_, fun j hj => ?_⟩
  · by_cases q : j = H + 1
    · subst q; rw [kn_us]; exact ⟨hb, e⟩
    · rw [cc j (by omega)]; exact C.1 j (by omega)
  · rw [cc j (by omega)]
    by_cases q : j = H
    · subst q; rw [kn_us]; exact p
    · rw [cc (j + 1) (by omega)]; exact C.2 j (by omega)
theorem kc_W_zero {oP tk ic ni nu sc rs nh hd pa he : Nat → Nat} {md bk : Nat} {am : Nat → Int32} {fit : Nat → Int32 → Int32 → Bool} (N : kd_N oP tk ic ni nu sc rs nh hd pa he md bk) : kc_W ic ni nu am fit nh hd pa he 0 = some (kc_fin 0 0 (kc_K0, 0)) := by
  rw [kc_W_0 (kd_T N).2.2.1]
  refine kc_blk_t ?_
  rw [kd_n0 N]; rfl
section
variable {f_made f_arrivals f_top f_many f_agains f_feeNow : Int32} {a_op a_number a_tokens a_used a_timed a_stack a_inCoin a_inA a_inB a_ins a_amount a_script a_outs a_fitting a_parent a_height a_work a_holds a_held a_rewardScript a_reward a_delivered a_arrival a_right a_chain a_born a_spent a_since a_row a_fees a_taker a_again a_before : Nat → Int32} {oP tk ic ni nu sc rs nh hd pa he : Nat → Nat} {md bk : Nat}
theorem xx_sp11 {u : Nat} {wr0 : Nat → Int32} {W : Nat → Option kc_K} (W0 : ∃ K, W 0 = some K) (Wn : ∀ b, 0 < b → b < bk → W (pa b) = none → W b = none) (N : kd_N oP tk ic ni nu sc rs nh hd pa he md bk) (D : kx_D a_op a_number a_tokens a_timed a_inCoin a_ins a_outs a_script a_rewardScript a_holds a_held a_parent a_height oP tk ic ni nu sc rs nh hd pa he) :
    ∀ (m c : Nat) (wr : Nat → Int32), c + m = 32 → u < c → (∀ b, wr b = 0 ∨ (wr b = 1 ∧ b < bk ∧ W b = none)) → wr u = 1 → (∀ b, wr0 b = 1 → wr b = 1) → (∀ b, u < b → b < c → b < bk → wr (pa b) = 1 → wr b = 1) →
    ∃ wr', (∀ b, wr' b = 0 ∨ (wr' b = 1 ∧ b < bk ∧ W b = none)) ∧ wr' u = 1 ∧ (∀ b, wr0 b = 1 → wr' b = 1) ∧ (∀ b, u < b → b < bk → wr' (pa b) = 1 → wr' b = 1) ∧
    ∀ (post : SX → Prop), post (f_made, nI bk, f_arrivals, f_top, f_many, f_agains, f_feeNow, a_op, a_number, a_tokens, a_used, a_timed, a_stack, a_inCoin, a_inA, a_inB, a_ins, a_amount, a_script, a_outs, a_fitting, a_parent, a_height, a_work, a_holds, a_held, a_rewardScript, a_reward, a_delivered, a_arrival, a_right, wr', a_chain, a_born, a_spent, a_since, a_row, a_fees, a_taker, a_again, a_before) → ∀ n, m < n → wX_spoil_11 post f_made (nI bk) f_arrivals f_top f_many f_agains f_feeNow n (nI c) a_op a_number a_tokens a_used a_timed a_stack a_inCoin a_inA a_inB a_ins a_amount a_script a_outs a_fitting a_parent a_height a_work a_holds a_held a_rewardScript a_reward a_delivered a_arrival a_right wr a_chain a_born a_spent a_since a_row a_fees a_taker a_again a_before := by
  have b32 := kd_bk N
  intro m
  induction m with
  | zero =>
    intro c wr e hu q1 q2 q3 q4
    refine ⟨wr, q1, q2, q3, fun b h1 h2 => q4 b h1 (by omega) h2, fun post hp n hn => ?_⟩
    obtain ⟨n, rfl⟩ : ∃ n', n = n' + 1 := ⟨n - 1, by omega⟩
    exact pk_le 32 c (fun _ => hp) (fun z => by omega)
  | succ m ih =>
    intro c wr e hu q1 q2 q3 q4
    by_cases hc : bk ≤ c
    · obtain ⟨wr', r1, r2, r3, r4, R⟩ := ih (c + 1) wr (by omega) (by omega) q1 q2 q3 (fun b h1 h2 h3 => q4 b h1 (by omega) h3)
      refine ⟨wr', r1, r2, r3, r4, fun post hp n hn => ?_⟩
      obtain ⟨n, rfl⟩ : ∃ n', n = n' + 1 := ⟨n - 1, by omega⟩
      exact pk_le 32 c (fun z => by omega) (fun _ => pk_le bk c (fun _ => nm_r (nI_1 c) (R post hp n (by omega))) (fun z => by omega))
    · have pc := (kd_T N).2.2.2.2 c (by omega) (by omega)
      have ep := kn_at (dx_pa D) c
      have pl := kn_l (dx_pa D) c
      have ecl : (nI (pa c)).toNatClampNeg = pa c := nI_clamp (by omega)
      rcases q1 (pa c) with z | ⟨z, zb, zn⟩
      · obtain ⟨wr', r1, r2, r3, r4, R⟩ := ih (c + 1) wr (by omega) (by omega) q1 q2 q3 (fun b h1 h2 h3 h4 => by
          by_cases q : b = c
          · subst q; rw [z] at h4; exact absurd h4 (by decide)
          · exact q4 b h1 (by omega) h3 h4)
        refine ⟨wr', r1, r2, r3, r4, fun post hp n hn => ?_⟩
        obtain ⟨n, rfl⟩ : ∃ n', n = n' + 1 := ⟨n - 1, by omega⟩
        refine pk_le 32 c (fun z => by omega) (fun _ => pk_le bk c (fun z => by omega) (fun _ => And.intro (pk_in c 32 (by omega)) (And.intro (pk_in (pa c) 32 pl ep) ?_)))
        rw [ep, ecl]
        exact br_t z (nm_r (nI_1 c) (R post hp n (by omega)))
      · have p0 : 0 < pa c := by
          rcases Nat.eq_zero_or_pos (pa c) with y | y
          · obtain ⟨K, eK⟩ := W0
            rw [y, eK] at zn; exact nomatch zn
          · exact y
        have wn := Wn c (by omega) (by omega) zn
        obtain ⟨wr', r1, r2, r3, r4, R⟩ := ih (c + 1) (upd wr c 1) (by omega) (by omega)
          (fun b => by
            by_cases q : b = c
            · subst q; rw [pk_us]; exact Or.inr ⟨rfl, by omega, wn⟩
            · rw [pk_un q]; exact q1 b)
          (by rw [pk_un (by omega)]; exact q2)
          (fun b hb => by
            by_cases q : b = c
            · subst q; rw [pk_us]
            · rw [pk_un q]; exact q3 b hb)
          (fun b h1 h2 h3 h4 => by
            by_cases q : b = c
            · subst q; rw [pk_us]
            · have pb := (kd_T N).2.2.2.2 b (by omega) h3
              rw [pk_un (by omega)] at h4
              rw [pk_un q]; exact q4 b h1 (by omega) h3 h4)
        refine ⟨wr', r1, r2, r3, r4, fun post hp n hn => ?_⟩
        obtain ⟨n, rfl⟩ : ∃ n', n = n' + 1 := ⟨n - 1, by omega⟩
        refine pk_le 32 c (fun z => by omega) (fun _ => pk_le bk c (fun z => by omega) (fun _ => And.intro (pk_in c 32 (by omega)) (And.intro (pk_in (pa c) 32 pl ep) ?_)))
        rw [ep, ecl]
        exact br_f (by rw [z]; decide) (And.intro (pk_in c 32 (by omega)) (pk_le (pa c) 0 (fun y => by omega) (fun _ => And.intro (pk_in c 32 (by omega)) (nm_r (kn_uv c kn_v1) (nm_r (nI_1 c) (R post hp n (by omega)))))))
theorem xx_spoil {u : Nat} {wr : Nat → Int32} {W : Nat → Option kc_K} (W0 : ∃ K, W 0 = some K) (Wn : ∀ b, 0 < b → b < bk → W (pa b) = none → W b = none) (N : kd_N oP tk ic ni nu sc rs nh hd pa he md bk) (D : kx_D a_op a_number a_tokens a_timed a_inCoin a_ins a_outs a_script a_rewardScript a_holds a_held a_parent a_height oP tk ic ni nu sc rs nh hd pa he) (hu : u < bk) (un : W u = none) (q1 : ∀ b, wr b = 0 ∨ (wr b = 1 ∧ b < bk ∧ W b = none)) :
    ∃ wr', (∀ b, wr' b = 0 ∨ (wr' b = 1 ∧ b < bk ∧ W b = none)) ∧ wr' u = 1 ∧ (∀ b, wr b = 1 → wr' b = 1) ∧ (∀ b, u < b → b < bk → wr' (pa b) = 1 → wr' b = 1) ∧
    ∀ (post : SX → Prop), post (f_made, nI bk, f_arrivals, f_top, f_many, f_agains, f_feeNow, a_op, a_number, a_tokens, a_used, a_timed, a_stack, a_inCoin, a_inA, a_inB, a_ins, a_amount, a_script, a_outs, a_fitting, a_parent, a_height, a_work, a_holds, a_held, a_rewardScript, a_reward, a_delivered, a_arrival, a_right, wr', a_chain, a_born, a_spent, a_since, a_row, a_fees, a_taker, a_again, a_before) → wpX_spoil post (f_made, nI bk, f_arrivals, f_top, f_many, f_agains, f_feeNow, a_op, a_number, a_tokens, a_used, a_timed, a_stack, a_inCoin, a_inA, a_inB, a_ins, a_amount, a_script, a_outs, a_fitting, a_parent, a_height, a_work, a_holds, a_held, a_rewardScript, a_reward, a_delivered, a_arrival, a_right, wr, a_chain, a_born, a_spent, a_since, a_row, a_fees, a_taker, a_again, a_before) (nI u) := by
  have b32 := kd_bk N
  obtain ⟨wr', r1, r2, r3, r4, R⟩ := xx_sp11 (f_made := f_made) (f_arrivals := f_arrivals) (f_top := f_top) (f_many := f_many) (f_agains := f_agains) (f_feeNow := f_feeNow) (a_op := a_op) (a_number := a_number) (a_tokens := a_tokens) (a_used := a_used) (a_timed := a_timed) (a_stack := a_stack) (a_inCoin := a_inCoin) (a_inA := a_inA) (a_inB := a_inB) (a_ins := a_ins) (a_amount := a_amount) (a_script := a_script) (a_outs := a_outs) (a_fitting := a_fitting) (a_parent := a_parent) (a_height := a_height) (a_work := a_work) (a_holds := a_holds) (a_held := a_held) (a_rewardScript := a_rewardScript) (a_reward := a_reward) (a_delivered := a_delivered) (a_arrival := a_arrival) (a_right := a_right) (a_chain := a_chain) (a_born := a_born) (a_spent := a_spent) (a_since := a_since) (a_row := a_row) (a_fees := a_fees) (a_taker := a_taker) (a_again := a_again) (a_before := a_before) (u := u) (wr0 := wr) W0 Wn N D (31 - u) (u + 1) (upd wr u 1) (by omega) (by omega)
    (fun b => by
      by_cases q : b = u
      · subst q; rw [pk_us]; exact Or.inr ⟨rfl, hu, un⟩
      · rw [pk_un q]; exact q1 b)
    pk_us
    (fun b hb => by
      by_cases q : b = u
      · subst q; rw [pk_us]
      · rw [pk_un q]; exact hb)
    (fun b h1 h2 => by omega)
  exact ⟨wr', r1, r2, r3, r4, fun post hp => And.intro (pk_in u 32 (by omega)) (nm_r (kn_uv u kn_v1) (nm_r (nI_1 u) ⟨32 - u, R post hp _ (by omega)⟩))⟩
end
section
variable {f_made f_arrivals f_many f_agains : Int32} {a_op a_number a_tokens a_used a_timed a_inCoin a_inA a_inB a_ins a_amount a_script a_outs a_parent a_height a_work a_holds a_held a_rewardScript a_delivered a_arrival a_row a_fees a_taker a_again a_before : Nat → Int32} {oP tk ic ni nu sc rs nh hd pa he : Nat → Nat} {md bk : Nat}
/-- going up to b -/
theorem xx_r69 {b : Nat} {c : Nat → Nat} (hb : b < bk) (N : kd_N oP tk ic ni nu sc rs nh hd pa he md bk) (D : kx_D a_op a_number a_tokens a_timed a_inCoin a_ins a_outs a_script a_rewardScript a_holds a_held a_parent a_height oP tk ic ni nu sc rs nh hd pa he) (P : kc_ch bk pa he c (he b)) (cb : c (he b) = b) {wr : Nat → Int32} :
    ∀ (m tp : Nat) (cn : Nat → Int32) (ch : Nat → Nat) (K : kc_K) (fe : Int32) (st fi rw rg : Nat → Int32), he b = tp + m → ch tp = c tp → kn_H cn ch 32 → kx_Z (kc_W ic ni nu a_amount (kf_fit oP a_number tk ic a_inA a_inB sc rs) nh hd pa he) bk pa he a_amount rw rg ch tp K → kx_V (kc_W ic ni nu a_amount (kf_fit oP a_number tk ic a_inA a_inB sc rs) nh hd pa he) bk rw rg wr → kf_C md ni a_timed (fun i => kx_s sc rs (ic i)) (kf_fit oP a_number tk ic a_inA a_inB sc rs) fi →
    ∃ tp' cn' ch' K' fe' st' fi' rw' rg' wr', kf_C md ni a_timed (fun i => kx_s sc rs (ic i)) (kf_fit oP a_number tk ic a_inA a_inB sc rs) fi' ∧ kx_O (kc_W ic ni nu a_amount (kf_fit oP a_number tk ic a_inA a_inB sc rs) nh hd pa he) bk pa he a_amount b rg wr tp' cn' ch' K' rw' rg' wr' ∧ ∀ post : SX → Prop, post (f_made, nI bk, f_arrivals, nI tp', f_many, f_agains, fe', a_op, a_number, a_tokens, a_used, a_timed, st', a_inCoin, a_inA, a_inB, a_ins, a_amount, a_script, a_outs, fi', a_parent, a_height, a_work, a_holds, a_held, a_rewardScript, rw', a_delivered, a_arrival, rg', wr', cn', K'.1, K'.2.1, K'.2.2.1, a_row, a_fees, a_taker, a_again, a_before) → ∀ n, m < n → wX_reorganise_69 post (nI b) n f_made (nI bk) f_arrivals (nI tp) f_many f_agains fe a_op a_number a_tokens a_used a_timed st a_inCoin a_inA a_inB a_ins a_amount a_script a_outs fi a_parent a_height a_work a_holds a_held a_rewardScript rw a_delivered a_arrival rg wr cn K.1 K.2.1 K.2.2.1 a_row a_fees a_taker a_again a_before := by
  have b32 := kd_bk N
  have hl := kc_T_l (kd_T N) hb
  intro m
  induction m with
  | zero =>
    intro tp cn ch K fe st fi rw rg e ec Hc Z V C
    have et : ch tp = b := by rw [ec, show tp = he b by omega]; exact cb
    refine ⟨tp, cn, ch, K, fe, st, fi, rw, rg, wr, C, ⟨Hc, Z, V, fun _ h => h, fun _ h => h, Or.inl ⟨et, rfl⟩⟩, fun post hp n hn => ?_⟩
    obtain ⟨n, rfl⟩ : ∃ n', n = n' + 1 := ⟨n - 1, by omega⟩
    refine And.intro (pk_in tp 32 (by omega)) ?_
    rw [kn_at Hc tp, et]
    exact br_t rfl hp
  | succ m ih =>
    intro tp cn ch K fe st fi rw rg e ec Hc Z V C
    have a := P.1 (tp + 1) (by omega)
    have p := P.2 tp (by omega)
    have a0 := P.1 tp (by omega)
    have nb : ch tp ≠ b := by
      intro q
      rw [ec] at q
      have := a0.2
      rw [q] at this
      omega
    have cl := kn_l Hc tp
    have u0 : 0 < c (tp + 1) := by
      rcases Nat.eq_zero_or_pos (c (tp + 1)) with y | y
      · have h0 := (kd_T N).2.2.1
        rw [y, h0] at a; omega
      · exact y
    have s := kc_T_s (kd_T N) a.1 (by omega)
    have wk : kc_W ic ni nu a_amount (kf_fit oP a_number tk ic a_inA a_inB sc rs) nh hd pa he (pa (c (tp + 1))) = some K := by rw [p, ← ec]; exact Z.2.1
    have wb : kc_W ic ni nu a_amount (kf_fit oP a_number tk ic a_inA a_inB sc rs) nh hd pa he (c (tp + 1)) = kc_blk ic ni nu a_amount (kf_fit oP a_number tk ic a_inA a_inB sc rs) nh hd (c (tp + 1)) (tp + 1) K := by rw [kc_W_s s, wk, a.2]; rfl
    have Ik := kc_W_I' (kd_D N) (kd_T N) (kc_T_p (kd_T N) a.1) wk
    have hp1 : he (pa (c (tp + 1))) = tp := by omega
    have I1 : kc_I he (tp + 1) K := kc_I_up Ik (by omega)
    have nw := kc_W_new (kd_D N) (kd_T N) a.1 (by omega) wk
    obtain ⟨fe1, st1, fi1, C1, E1, E0⟩ := xx_connect (f_made := f_made) (f_blocks := nI bk) (f_arrivals := f_arrivals) (f_many := f_many) (f_agains := f_agains) (a_op := a_op) (a_number := a_number) (a_tokens := a_tokens) (a_used := a_used) (a_timed := a_timed) (a_inCoin := a_inCoin) (a_inA := a_inA) (a_inB := a_inB) (a_ins := a_ins) (a_amount := a_amount) (a_script := a_script) (a_outs := a_outs) (a_parent := a_parent) (a_height := a_height) (a_work := a_work) (a_holds := a_holds) (a_held := a_held) (a_rewardScript := a_rewardScript) (a_reward := rw) (a_delivered := a_delivered) (a_arrival := a_arrival) (a_right := rg) (a_wrong := wr) (a_chain := cn) (a_row := a_row) (a_fees := a_fees) (a_taker := a_taker) (a_again := a_again) (a_before := a_before) (fe := fe) (st := st) a.1 u0 (show tp + 1 < 32 by omega) N D I1 nw Z.2.2.1 C
    -- looking for the next block
    have r84 : ∀ (post : SX → Prop) (J : Int32 → Int32 → Int32 → Int32 → Int32 → Int32 → Int32 → (Nat → Int32) → (Nat → Int32) → (Nat → Int32) → (Nat → Int32) → (Nat → Int32) → (Nat → Int32) → (Nat → Int32) → (Nat → Int32) → (Nat → Int32) → (Nat → Int32) → (Nat → Int32) → (Nat → Int32) → (Nat → Int32) → (Nat → Int32) → (Nat → Int32) → (Nat → Int32) → (Nat → Int32) → (Nat → Int32) → (Nat → Int32) → (Nat → Int32) → (Nat → Int32) → (Nat → Int32) → (Nat → Int32) → (Nat → Int32) → (Nat → Int32) → (Nat → Int32) → (Nat → Int32) → (Nat → Int32) → (Nat → Int32) → (Nat → Int32) → (Nat → Int32) → (Nat → Int32) → (Nat → Int32) → (Nat → Int32) → Prop) (n' : Nat), wpX_connect (fun r u => match u with | (f_made, f_blocks, f_arrivals, f_top, f_many, f_agains, f_feeNow, a_op, a_number, a_tokens, a_used, a_timed, a_stack, a_inCoin, a_inA, a_inB, a_ins, a_amount, a_script, a_outs, a_fitting, a_parent, a_height, a_work, a_holds, a_held, a_rewardScript, a_reward, a_delivered, a_arrival, a_right, a_wrong, a_chain, a_born, a_spent, a_since, a_row, a_fees, a_taker, a_again, a_before) => ((r = 0 → (wpX_spoil (fun u => match u with | (f_made, f_blocks, f_arrivals, f_top, f_many, f_agains, f_feeNow, a_op, a_number, a_tokens, a_used, a_timed, a_stack, a_inCoin, a_inA, a_inB, a_ins, a_amount, a_script, a_outs, a_fitting, a_parent, a_height, a_work, a_holds, a_held, a_rewardScript, a_reward, a_delivered, a_arrival, a_right, a_wrong, a_chain, a_born, a_spent, a_since, a_row, a_fees, a_taker, a_again, a_before) => (post (f_made, f_blocks, f_arrivals, f_top, f_many, f_agains, f_feeNow, a_op, a_number, a_tokens, a_used, a_timed, a_stack, a_inCoin, a_inA, a_inB, a_ins, a_amount, a_script, a_outs, a_fitting, a_parent, a_height, a_work, a_holds, a_held, a_rewardScript, a_reward, a_delivered, a_arrival, a_right, a_wrong, a_chain, a_born, a_spent, a_since, a_row, a_fees, a_taker, a_again, a_before))) (f_made, f_blocks, f_arrivals, f_top, f_many, f_agains, f_feeNow, a_op, a_number, a_tokens, a_used, a_timed, a_stack, a_inCoin, a_inA, a_inB, a_ins, a_amount, a_script, a_outs, a_fitting, a_parent, a_height, a_work, a_holds, a_held, a_rewardScript, a_reward, a_delivered, a_arrival, a_right, a_wrong, a_chain, a_born, a_spent, a_since, a_row, a_fees, a_taker, a_again, a_before) (nI (c (tp + 1))))) ∧ (¬ r = 0 → (J f_made f_blocks f_arrivals f_top f_many f_agains f_feeNow a_op a_number a_tokens a_used a_timed a_stack a_inCoin a_inA a_inB a_ins a_amount a_script a_outs a_fitting a_parent a_height a_work a_holds a_held a_rewardScript a_reward a_delivered a_arrival a_right a_wrong a_chain a_born a_spent a_since a_row a_fees a_taker a_again a_before)))) (f_made, nI bk, f_arrivals, nI tp, f_many, f_agains, fe, a_op, a_number, a_tokens, a_used, a_timed, st, a_inCoin, a_inA, a_inB, a_ins, a_amount, a_script, a_outs, fi, a_parent, a_height, a_work, a_holds, a_held, a_rewardScript, rw, a_delivered, a_arrival, rg, wr, cn, K.1, K.2.1, K.2.2.1, a_row, a_fees, a_taker, a_again, a_before) (nI (c (tp + 1))) → ∀ d n, tp + 1 + d ≤ he b → d < n → wX_reorganise_84 post J (nI b) f_made (nI bk) f_arrivals (nI tp) f_many f_agains fe a_op a_number a_tokens a_used a_timed st a_inCoin a_inA a_inB a_ins a_amount a_script a_outs fi a_parent a_height a_work a_holds a_held a_rewardScript rw a_delivered a_arrival rg wr cn K.1 K.2.1 K.2.2.1 a_row a_fees a_taker a_again a_before n (nI (c (tp + 1 + d))) := by
      intro post J n' W d
      induction d with
      | zero =>
        intro n _ hn
        obtain ⟨n, rfl⟩ : ∃ n', n = n' + 1 := ⟨n - 1, by omega⟩
        exact And.intro (pk_in (c (tp + 1)) 32 (by omega)) (pk_le (tp + 1) (tp + 1) (fun _ => W) (fun z => by omega) ((kn_at (dx_he D) (c (tp + 1))).trans (by rw [a.2])) (nI_1 tp))
      | succ d ihd =>
        intro n hd' hn
        obtain ⟨n, rfl⟩ : ∃ n', n = n' + 1 := ⟨n - 1, by omega⟩
        have a' := P.1 (tp + 1 + (d + 1)) (by omega)
        have p' := P.2 (tp + 1 + d) (by omega)
        refine And.intro (pk_in (c (tp + 1 + (d + 1))) 32 (by omega)) (pk_le (tp + 1 + (d + 1)) (tp + 1) (fun z => by omega) (fun _ => And.intro (pk_in (c (tp + 1 + (d + 1))) 32 (by omega)) (nm_r (e' := nI (c (tp + 1 + d))) ?_ (ihd n (by omega) (by omega)))) ((kn_at (dx_he D) (c (tp + 1 + (d + 1)))).trans (by rw [a'.2])) (nI_1 tp))
        rw [kn_at (dx_pa D) (c (tp + 1 + (d + 1)))]
        exact congrArg nI p'
    have top : ∀ (post : SX → Prop) (n : Nat), (∀ d, tp + 1 + d = he b → wX_reorganise_84 post (wX_reorganise_69 post (nI b) n) (nI b) f_made (nI bk) f_arrivals (nI tp) f_many f_agains fe a_op a_number a_tokens a_used a_timed st a_inCoin a_inA a_inB a_ins a_amount a_script a_outs fi a_parent a_height a_work a_holds a_held a_rewardScript rw a_delivered a_arrival rg wr cn K.1 K.2.1 K.2.2.1 a_row a_fees a_taker a_again a_before (d + 1) (nI (c (tp + 1 + d)))) → wX_reorganise_69 post (nI b) (n + 1) f_made (nI bk) f_arrivals (nI tp) f_many f_agains fe a_op a_number a_tokens a_used a_timed st a_inCoin a_inA a_inB a_ins a_amount a_script a_outs fi a_parent a_height a_work a_holds a_held a_rewardScript rw a_delivered a_arrival rg wr cn K.1 K.2.1 K.2.2.1 a_row a_fees a_taker a_again a_before := by
      intro post n W
      refine And.intro (pk_in tp 32 (by omega)) ?_
      rw [kn_at Hc tp]
      refine pk_eq (ch tp) b (fun q => absurd q nb) (fun _ => ⟨he b - (tp + 1) + 1, ?_⟩)
      have := W (he b - (tp + 1)) (by omega)
      rw [show tp + 1 + (he b - (tp + 1)) = he b by omega, cb] at this
      exact this
    cases z : kc_blk ic ni nu a_amount (kf_fit oP a_number tk ic a_inA a_inB sc rs) nh hd (c (tp + 1)) (tp + 1) K with
    | none =>
      have un := wb.trans z
      obtain ⟨wr', r1, r2, r3, r4, R⟩ := xx_spoil (f_made := f_made) (f_arrivals := f_arrivals) (f_top := nI tp) (f_many := f_many) (f_agains := f_agains) (f_feeNow := fe1) (a_op := a_op) (a_number := a_number) (a_tokens := a_tokens) (a_used := a_used) (a_timed := a_timed) (a_stack := st1) (a_inCoin := a_inCoin) (a_inA := a_inA) (a_inB := a_inB) (a_ins := a_ins) (a_amount := a_amount) (a_script := a_script) (a_outs := a_outs) (a_fitting := fi1) (a_parent := a_parent) (a_height := a_height) (a_work := a_work) (a_holds := a_holds) (a_held := a_held) (a_rewardScript := a_rewardScript) (a_reward := rw) (a_delivered := a_delivered) (a_arrival := a_arrival) (a_right := rg) (a_chain := cn) (a_born := K.1) (a_spent := K.2.1) (a_since := K.2.2.1) (a_row := a_row) (a_fees := a_fees) (a_taker := a_taker) (a_again := a_again) (a_before := a_before) (W := kc_W ic ni nu a_amount (kf_fit oP a_number tk ic a_inA a_inB sc rs) nh hd pa he) ⟨_, kc_W_zero N⟩ (fun b h0 hb => kc_W_none ((kd_T N).2.2.2.2 b h0 hb).2) N D a.1 un V.2
      have wbn : kc_W ic ni nu a_amount (kf_fit oP a_number tk ic a_inA a_inB sc rs) nh hd pa he b = none := by
        have := kc_ch_W (kd_T N) P (he b - (tp + 1)) (tp + 1) (by omega) un
        rw [cb] at this; exact this
      have up : ∀ d, tp + 1 + d ≤ he b → wr' (c (tp + 1 + d)) = 1 ∧ c (tp + 1) ≤ c (tp + 1 + d) := by
        intro d
        induction d with
        | zero => intro _; exact ⟨r2, Nat.le_refl _⟩
        | succ d ihd =>
          intro hd'
          obtain ⟨i1, i2⟩ := ihd (by omega)
          have a' := P.1 (tp + 1 + (d + 1)) (by omega)
          have p' : pa (c (tp + 1 + (d + 1))) = c (tp + 1 + d) := P.2 (tp + 1 + d) (by omega)
          have lt : pa (c (tp + 1 + (d + 1))) < c (tp + 1 + (d + 1)) := by
            refine ((kd_T N).2.2.2.2 _ ?_ a'.1).1
            rcases Nat.eq_zero_or_pos (c (tp + 1 + (d + 1))) with y | y
            · have h0 := (kd_T N).2.2.1
              rw [y, h0] at a'; omega
            · exact y
          refine ⟨r4 _ (by omega) a'.1 (by rw [p']; exact i1), by omega⟩
      have wb1 : wr' b = 1 := by
        have := (up (he b - (tp + 1)) (by omega)).1
        rw [show tp + 1 + (he b - (tp + 1)) = he b by omega, cb] at this
        exact this
      refine ⟨tp, cn, ch, K, fe1, st1, fi1, rw, rg, wr', C1, ⟨Hc, Z, ⟨V.1, r1⟩, fun _ h => h, r3, Or.inr ⟨wbn, wb1⟩⟩, fun post hp n hn => ?_⟩
      obtain ⟨n, rfl⟩ : ∃ n', n = n' + 1 := ⟨n - 1, by omega⟩
      exact top post n (fun d hd' => r84 post _ 0 (E0 z _ (br_t rfl (R _ hp))) d _ (by omega) (by omega))
    | some K1 =>
      have uk := wb.trans z
      obtain ⟨A1, Q⟩ := E1 K1 z
      have Hc1 : kn_H (upd cn (tp + 1) (nI (c (tp + 1)))) (kn_u ch (tp + 1) (c (tp + 1))) 32 := kn_upd Hc rfl (by omega)
      have Z1 : kx_Z (kc_W ic ni nu a_amount (kf_fit oP a_number tk ic a_inA a_inB sc rs) nh hd pa he) bk pa he a_amount (upd rw (c (tp + 1)) (K1.2.2.2 (120 + c (tp + 1)))) (upd rg (c (tp + 1)) 1) (kn_u ch (tp + 1) (c (tp + 1))) (tp + 1) K1 := by
        refine ⟨kc_ch_s Z.1 a.1 a.2 (by rw [p]; exact ec.symm), by rw [kn_us]; exact uk, A1, fun h hh => ?_⟩
        by_cases q : kn_u ch (tp + 1) (c (tp + 1)) h = c (tp + 1)
        · rw [q, pk_us]
        · rw [pk_un q]
          by_cases q2 : h = tp + 1
          · exact absurd (by rw [q2, kn_us]) q
          · rw [kn_un q2]; exact Z.2.2.2 h (by omega)
      have V1 : kx_V (kc_W ic ni nu a_amount (kf_fit oP a_number tk ic a_inA a_inB sc rs) nh hd pa he) bk (upd rw (c (tp + 1)) (K1.2.2.2 (120 + c (tp + 1)))) (upd rg (c (tp + 1)) 1) wr := by
        refine ⟨fun x => ?_, V.2⟩
        by_cases q : x = c (tp + 1)
        · rw [q, pk_us, pk_us]; exact Or.inr ⟨rfl, a.1, K1, uk, rfl⟩
        · rw [pk_un q, pk_un q]; exact V.1 x
      obtain ⟨tp', cn', ch', K', fe', st', fi', rw', rg', wr', C', O, R⟩ := ih (tp + 1) _ _ K1 fe1 st1 fi1 _ _ (by omega) kn_us Hc1 Z1 V1 C1
      refine ⟨tp', cn', ch', K', fe', st', fi', rw', rg', wr', C', ⟨O.1, O.2.1, O.2.2.1, fun x hx => O.2.2.2.1 x ?_, O.2.2.2.2.1, O.2.2.2.2.2⟩, fun post hp n hn => ?_⟩
      · by_cases q : x = c (tp + 1)
        · rw [q, pk_us]
        · rw [pk_un q]; exact hx
      · obtain ⟨n, rfl⟩ : ∃ n', n = n' + 1 := ⟨n - 1, by omega⟩
        exact top post n (fun d hd' => r84 post _ 0 (Q _ (br_f kn_10 (R post hp n (by omega)))) d _ (by omega) (by omega))
/-- taking back -/
theorem xx_r40 {b l : Nat} {c : Nat → Nat} (hb : b < bk) (N : kd_N oP tk ic ni nu sc rs nh hd pa he md bk) (D : kx_D a_op a_number a_tokens a_timed a_inCoin a_ins a_outs a_script a_rewardScript a_holds a_held a_parent a_height oP tk ic ni nu sc rs nh hd pa he) (P : kc_ch bk pa he c (he b)) (cb : c (he b) = b) (hl : l ≤ he b) {wr rg rw cn : Nat → Int32} {ch : Nat → Nat} {fe : Int32} {st fi : Nat → Int32} (Hc : kn_H cn ch 32) (ec : ch l = c l) (V : kx_V (kc_W ic ni nu a_amount (kf_fit oP a_number tk ic a_inA a_inB sc rs) nh hd pa he) bk rw rg wr) (C : kf_C md ni a_timed (fun i => kx_s sc rs (ic i)) (kf_fit oP a_number tk ic a_inA a_inB sc rs) fi) :
    ∀ (d tp : Nat) (K : kc_K), tp = l + d → tp < 32 → kx_Z (kc_W ic ni nu a_amount (kf_fit oP a_number tk ic a_inA a_inB sc rs) nh hd pa he) bk pa he a_amount rw rg ch tp K →
    ∃ tp' cn' ch' K' fe' st' fi' rw' rg' wr', kf_C md ni a_timed (fun i => kx_s sc rs (ic i)) (kf_fit oP a_number tk ic a_inA a_inB sc rs) fi' ∧ kx_O (kc_W ic ni nu a_amount (kf_fit oP a_number tk ic a_inA a_inB sc rs) nh hd pa he) bk pa he a_amount b rg wr tp' cn' ch' K' rw' rg' wr' ∧ ∀ post : SX → Prop, post (f_made, nI bk, f_arrivals, nI tp', f_many, f_agains, fe', a_op, a_number, a_tokens, a_used, a_timed, st', a_inCoin, a_inA, a_inB, a_ins, a_amount, a_script, a_outs, fi', a_parent, a_height, a_work, a_holds, a_held, a_rewardScript, rw', a_delivered, a_arrival, rg', wr', cn', K'.1, K'.2.1, K'.2.2.1, a_row, a_fees, a_taker, a_again, a_before) → ∀ n, d < n → wX_reorganise_40 post (nI b) (nI (c l)) n f_made (nI bk) f_arrivals (nI tp) f_many f_agains fe a_op a_number a_tokens a_used a_timed st a_inCoin a_inA a_inB a_ins a_amount a_script a_outs fi a_parent a_height a_work a_holds a_held a_rewardScript rw a_delivered a_arrival rg wr cn K.1 K.2.1 K.2.2.1 a_row a_fees a_taker a_again a_before := by
  have b32 := kd_bk N
  have al := P.1 l hl
  intro d
  induction d with
  | zero =>
    intro tp K e ht Z
    have e : tp = l := by omega
    subst e
    obtain ⟨tp', cn', ch', K', fe', st', fi', rw', rg', wr', C', O, R⟩ := xx_r69 (f_made := f_made) (f_arrivals := f_arrivals) (f_many := f_many) (f_agains := f_agains) (a_op := a_op) (a_number := a_number) (a_tokens := a_tokens) (a_used := a_used) (a_timed := a_timed) (a_inCoin := a_inCoin) (a_inA := a_inA) (a_inB := a_inB) (a_ins := a_ins) (a_amount := a_amount) (a_script := a_script) (a_outs := a_outs) (a_parent := a_parent) (a_height := a_height) (a_work := a_work) (a_holds := a_holds) (a_held := a_held) (a_rewardScript := a_rewardScript) (a_delivered := a_delivered) (a_arrival := a_arrival) (a_row := a_row) (a_fees := a_fees) (a_taker := a_taker) (a_again := a_again) (a_before := a_before) hb N D P cb (wr := wr) (he b - tp) tp cn ch K fe st fi rw rg (by omega) ec Hc Z V C
    refine ⟨tp', cn', ch', K', fe', st', fi', rw', rg', wr', C', O, fun post hp n hn => ?_⟩
    obtain ⟨n, rfl⟩ : ∃ n', n = n' + 1 := ⟨n - 1, by omega⟩
    exact And.intro (pk_in (c tp) 32 (by omega)) (pk_le tp tp (fun _ => ⟨_, R post hp (he b - tp + 1) (by omega)⟩) (fun z => by omega) rfl ((kn_at (dx_he D) (c tp)).trans (by rw [al.2])))
  | succ d ih =>
    intro tp K e ht Z
    obtain ⟨tp, rfl⟩ : ∃ q, tp = q + 1 := ⟨tp - 1, by omega⟩
    have a := Z.1.1 (tp + 1) (Nat.le_refl _)
    have p := Z.1.2 tp (by omega)
    have s := kc_T_s (kd_T N) a.1 (by omega)
    obtain ⟨K0, w0, k0⟩ := kc_W_some s Z.2.1
    have I0 := kc_W_I' (kd_D N) (kd_T N) (kc_T_p (kd_T N) a.1) w0
    have nw := kc_W_new (kd_D N) (kd_T N) a.1 (by omega) w0
    have u0 : 0 < ch (tp + 1) := by
      rcases Nat.eq_zero_or_pos (ch (tp + 1)) with y | y
      · have h0 := (kd_T N).2.2.1
        rw [y, h0] at a; omega
      · exact y
    have I1 : kc_I he (tp + 1) K0 := kc_I_up I0 (by omega)
    rw [a.2] at k0
    have Z0 : kx_Z (kc_W ic ni nu a_amount (kf_fit oP a_number tk ic a_inA a_inB sc rs) nh hd pa he) bk pa he a_amount rw rg ch tp K0 := ⟨kc_ch_d Z.1 (by omega), by rw [← p]; exact w0, kc_blk_A_back (kd_D N) (by omega) (by omega) I1 nw k0 Z.2.2.1, fun h hh => Z.2.2.2 h (by omega)⟩
    obtain ⟨tp', cn', ch', K', fe', st', fi', rw', rg', wr', C', O, R⟩ := ih tp K0 (by omega) (by omega) Z0
    refine ⟨tp', cn', ch', K', fe', st', fi', rw', rg', wr', C', O, fun post hp n hn => ?_⟩
    obtain ⟨n, rfl⟩ : ∃ n', n = n' + 1 := ⟨n - 1, by omega⟩
    refine And.intro (pk_in (c l) 32 (by omega)) (pk_le (tp + 1) l (fun z => by omega) (fun _ => And.intro (pk_in (tp + 1) 32 ht) ?_) rfl ((kn_at (dx_he D) (c l)).trans (by rw [al.2])))
    rw [kn_at Hc (tp + 1)]
    exact xx_takeBack a.1 u0 ht N D I1 nw k0 (R post hp n (by omega))
/-- where the chains part -/
theorem xx_r2 {b : Nat} {c : Nat → Nat} (hb : b < bk) (N : kd_N oP tk ic ni nu sc rs nh hd pa he md bk) (D : kx_D a_op a_number a_tokens a_timed a_inCoin a_ins a_outs a_script a_rewardScript a_holds a_held a_parent a_height oP tk ic ni nu sc rs nh hd pa he) (P : kc_ch bk pa he c (he b)) (cb : c (he b) = b) {wr rg rw cn : Nat → Int32} {ch : Nat → Nat} {fe : Int32} {st fi : Nat → Int32} {tp : Nat} {K : kc_K} (Hc : kn_H cn ch 32) (V : kx_V (kc_W ic ni nu a_amount (kf_fit oP a_number tk ic a_inA a_inB sc rs) nh hd pa he) bk rw rg wr) (C : kf_C md ni a_timed (fun i => kx_s sc rs (ic i)) (kf_fit oP a_number tk ic a_inA a_inB sc rs) fi) (ht : tp < 32) (Z : kx_Z (kc_W ic ni nu a_amount (kf_fit oP a_number tk ic a_inA a_inB sc rs) nh hd pa he) bk pa he a_amount rw rg ch tp K) :
    ∀ (l : Nat), l ≤ he b →
    ∃ tp' cn' ch' K' fe' st' fi' rw' rg' wr', kf_C md ni a_timed (fun i => kx_s sc rs (ic i)) (kf_fit oP a_number tk ic a_inA a_inB sc rs) fi' ∧ kx_O (kc_W ic ni nu a_amount (kf_fit oP a_number tk ic a_inA a_inB sc rs) nh hd pa he) bk pa he a_amount b rg wr tp' cn' ch' K' rw' rg' wr' ∧ ∀ post : SX → Prop, post (f_made, nI bk, f_arrivals, nI tp', f_many, f_agains, fe', a_op, a_number, a_tokens, a_used, a_timed, st', a_inCoin, a_inA, a_inB, a_ins, a_amount, a_script, a_outs, fi', a_parent, a_height, a_work, a_holds, a_held, a_rewardScript, rw', a_delivered, a_arrival, rg', wr', cn', K'.1, K'.2.1, K'.2.2.1, a_row, a_fees, a_taker, a_again, a_before) → ∀ n, l < n → wX_reorganise_2 post (nI b) f_made (nI bk) f_arrivals (nI tp) f_many f_agains fe a_op a_number a_tokens a_used a_timed st a_inCoin a_inA a_inB a_ins a_amount a_script a_outs fi a_parent a_height a_work a_holds a_held a_rewardScript rw a_delivered a_arrival rg wr cn K.1 K.2.1 K.2.2.1 a_row a_fees a_taker a_again a_before n (nI (c l)) := by
  have b32 := kd_bk N
  intro l
  induction l with
  | zero =>
    intro hl
    have a0 := P.1 0 hl
    have c0 : c 0 = 0 := (kc_T_0 (kd_T N) a0.1).mp a0.2
    have z0 := Z.1.1 0 (by omega)
    have ch0 : ch 0 = 0 := (kc_T_0 (kd_T N) z0.1).mp z0.2
    obtain ⟨tp', cn', ch', K', fe', st', fi', rw', rg', wr', C', O, R⟩ := xx_r40 (f_made := f_made) (f_arrivals := f_arrivals) (f_many := f_many) (f_agains := f_agains) (a_op := a_op) (a_number := a_number) (a_tokens := a_tokens) (a_used := a_used) (a_timed := a_timed) (a_inCoin := a_inCoin) (a_inA := a_inA) (a_inB := a_inB) (a_ins := a_ins) (a_amount := a_amount) (a_script := a_script) (a_outs := a_outs) (a_parent := a_parent) (a_height := a_height) (a_work := a_work) (a_holds := a_holds) (a_held := a_held) (a_rewardScript := a_rewardScript) (a_delivered := a_delivered) (a_arrival := a_arrival) (a_row := a_row) (a_fees := a_fees) (a_taker := a_taker) (a_again := a_again) (a_before := a_before) hb N D P cb hl (fe := fe) (st := st) Hc (by rw [c0, ch0]) V C tp tp K (by omega) ht Z
    refine ⟨tp', cn', ch', K', fe', st', fi', rw', rg', wr', C', O, fun post hp n hn => ?_⟩
    obtain ⟨n, rfl⟩ : ∃ n', n = n' + 1 := ⟨n - 1, by omega⟩
    have eh : a_height (nI (c 0)).toNatClampNeg = nI 0 := (kn_at (dx_he D) (c 0)).trans (by rw [a0.2])
    refine And.intro (pk_in (c 0) 32 (by omega)) (pk_lt tp 0 (fun z => by omega) (fun _ => And.intro (pk_in (c 0) 32 (by omega)) (And.intro (pk_in 0 32 (by omega) eh) ?_)) rfl eh)
    rw [eh, kn_at Hc 0, ch0, c0]
    rw [c0] at R
    exact br_t rfl ⟨_, R post hp (tp + 1) (by omega)⟩
  | succ l ih =>
    intro hl
    have a := P.1 (l + 1) hl
    have p := P.2 l (by omega)
    have h32 := kc_T_l (kd_T N) hb
    have eh : a_height (nI (c (l + 1))).toNatClampNeg = nI (l + 1) := (kn_at (dx_he D) (c (l + 1))).trans (by rw [a.2])
    have ep : a_parent (nI (c (l + 1))).toNatClampNeg = nI (c l) := (kn_at (dx_pa D) (c (l + 1))).trans (by rw [p])
    by_cases q : l + 1 ≤ tp ∧ ch (l + 1) = c (l + 1)
    · obtain ⟨tp', cn', ch', K', fe', st', fi', rw', rg', wr', C', O, R⟩ := xx_r40 (f_made := f_made) (f_arrivals := f_arrivals) (f_many := f_many) (f_agains := f_agains) (a_op := a_op) (a_number := a_number) (a_tokens := a_tokens) (a_used := a_used) (a_timed := a_timed) (a_inCoin := a_inCoin) (a_inA := a_inA) (a_inB := a_inB) (a_ins := a_ins) (a_amount := a_amount) (a_script := a_script) (a_outs := a_outs) (a_parent := a_parent) (a_height := a_height) (a_work := a_work) (a_holds := a_holds) (a_held := a_held) (a_rewardScript := a_rewardScript) (a_delivered := a_delivered) (a_arrival := a_arrival) (a_row := a_row) (a_fees := a_fees) (a_taker := a_taker) (a_again := a_again) (a_before := a_before) hb N D P cb hl (fe := fe) (st := st) Hc q.2 V C (tp - (l + 1)) tp K (by omega) ht Z
      refine ⟨tp', cn', ch', K', fe', st', fi', rw', rg', wr', C', O, fun post hp n hn => ?_⟩
      obtain ⟨n, rfl⟩ : ∃ n', n = n' + 1 := ⟨n - 1, by omega⟩
      refine And.intro (pk_in (c (l + 1)) 32 (by omega)) (pk_lt tp (l + 1) (fun z => by omega) (fun _ => And.intro (pk_in (c (l + 1)) 32 (by omega)) (And.intro (pk_in (l + 1) 32 (by omega) eh) ?_)) rfl eh)
      rw [eh, kn_at Hc (l + 1), q.2]
      exact br_t rfl ⟨_, R post hp (tp - (l + 1) + 1) (by omega)⟩
    · obtain ⟨tp', cn', ch', K', fe', st', fi', rw', rg', wr', C', O, R⟩ := ih (by omega)
      refine ⟨tp', cn', ch', K', fe', st', fi', rw', rg', wr', C', O, fun post hp n hn => ?_⟩
      obtain ⟨n, rfl⟩ : ∃ n', n = n' + 1 := ⟨n - 1, by omega⟩
      have cll := kn_l Hc (l + 1)
      refine And.intro (pk_in (c (l + 1)) 32 (by omega)) (pk_lt tp (l + 1) (fun z => And.intro (pk_in (c (l + 1)) 32 (by omega)) (nm_r ep (R post hp n (by omega)))) (fun z => And.intro (pk_in (c (l + 1)) 32 (by omega)) (And.intro (pk_in (l + 1) 32 (by omega) eh) ?_)) rfl eh)
      rw [eh, kn_at Hc (l + 1)]
      exact pk_eq (ch (l + 1)) (c (l + 1)) (fun y => absurd ⟨z, y⟩ q) (fun _ => And.intro (pk_in (c (l + 1)) 32 (by omega)) (nm_r ep (R post hp n (by omega))))
theorem xx_reorganise {b : Nat} (hb : b < bk) (N : kd_N oP tk ic ni nu sc rs nh hd pa he md bk) (D : kx_D a_op a_number a_tokens a_timed a_inCoin a_ins a_outs a_script a_rewardScript a_holds a_held a_parent a_height oP tk ic ni nu sc rs nh hd pa he) {wr rg rw cn : Nat → Int32} {ch : Nat → Nat} {fe : Int32} {st fi : Nat → Int32} {tp : Nat} {K : kc_K} (Hc : kn_H cn ch 32) (V : kx_V (kc_W ic ni nu a_amount (kf_fit oP a_number tk ic a_inA a_inB sc rs) nh hd pa he) bk rw rg wr) (C : kf_C md ni a_timed (fun i => kx_s sc rs (ic i)) (kf_fit oP a_number tk ic a_inA a_inB sc rs) fi) (Z : kx_Z (kc_W ic ni nu a_amount (kf_fit oP a_number tk ic a_inA a_inB sc rs) nh hd pa he) bk pa he a_amount rw rg ch tp K) :
    ∃ tp' cn' ch' K' fe' st' fi' rw' rg' wr', kf_C md ni a_timed (fun i => kx_s sc rs (ic i)) (kf_fit oP a_number tk ic a_inA a_inB sc rs) fi' ∧ kx_O (kc_W ic ni nu a_amount (kf_fit oP a_number tk ic a_inA a_inB sc rs) nh hd pa he) bk pa he a_amount b rg wr tp' cn' ch' K' rw' rg' wr' ∧ ∀ post : SX → Prop, post (f_made, nI bk, f_arrivals, nI tp', f_many, f_agains, fe', a_op, a_number, a_tokens, a_used, a_timed, st', a_inCoin, a_inA, a_inB, a_ins, a_amount, a_script, a_outs, fi', a_parent, a_height, a_work, a_holds, a_held, a_rewardScript, rw', a_delivered, a_arrival, rg', wr', cn', K'.1, K'.2.1, K'.2.2.1, a_row, a_fees, a_taker, a_again, a_before) → wpX_reorganise post (f_made, nI bk, f_arrivals, nI tp, f_many, f_agains, fe, a_op, a_number, a_tokens, a_used, a_timed, st, a_inCoin, a_inA, a_inB, a_ins, a_amount, a_script, a_outs, fi, a_parent, a_height, a_work, a_holds, a_held, a_rewardScript, rw, a_delivered, a_arrival, rg, wr, cn, K.1, K.2.1, K.2.2.1, a_row, a_fees, a_taker, a_again, a_before) (nI b) := by
  obtain ⟨c, P, cb⟩ := kc_ch_ex (kd_T N) (he b) b rfl hb
  have zt := Z.1.1 tp (Nat.le_refl _)
  have ht : tp < 32 := by rw [← zt.2]; exact kc_T_l (kd_T N) zt.1
  obtain ⟨tp', cn', ch', K', fe', st', fi', rw', rg', wr', C', O, R⟩ := xx_r2 (f_made := f_made) (f_arrivals := f_arrivals) (f_many := f_many) (f_agains := f_agains) (a_op := a_op) (a_number := a_number) (a_tokens := a_tokens) (a_used := a_used) (a_timed := a_timed) (a_inCoin := a_inCoin) (a_inA := a_inA) (a_inB := a_inB) (a_ins := a_ins) (a_amount := a_amount) (a_script := a_script) (a_outs := a_outs) (a_parent := a_parent) (a_height := a_height) (a_work := a_work) (a_holds := a_holds) (a_held := a_held) (a_rewardScript := a_rewardScript) (a_delivered := a_delivered) (a_arrival := a_arrival) (a_row := a_row) (a_fees := a_fees) (a_taker := a_taker) (a_again := a_again) (a_before := a_before) hb N D P cb (fe := fe) (st := st) Hc V C ht Z (he b) (Nat.le_refl _)
  rw [cb] at R
  exact ⟨tp', cn', ch', K', fe', st', fi', rw', rg', wr', C', O, fun post hp => ⟨_, R post hp (he b + 1) (by omega)⟩⟩
end
end
section
/-! ===== the best block: X's best and next, Y's workOf and scan ===== -/
def kb_bt (wk ar : Nat → Nat) (c b : Nat) : Prop := wk b < wk c ∨ (wk c = wk b ∧ ar c < ar b)
def kb_M (bk : Nat) (wk ar : Nat → Nat) (ok : Nat → Prop) (b : Nat) : Prop := b < bk ∧ ok b ∧ ∀ c, c < bk → ok c → ¬ kb_bt wk ar c b
theorem kb_u {bk : Nat} {wk ar : Nat → Nat} {ok : Nat → Prop} {b c : Nat} (inj : ∀ b c, b < bk → c < bk → ar b ≠ 0 → ar b = ar c → b = c) (oa : ∀ b, ok b → ar b ≠ 0) (B : kb_M bk wk ar ok b) (C : kb_M bk wk ar ok c) : b = c := by
  have h1 := B.2.2 c C.1 C.2.1
  have h2 := C.2.2 b B.1 B.2.1
  unfold kb_bt at h1 h2
  refine inj b c B.1 C.1 (oa b B.2.1) ?_
  omega
theorem kn_am1 {a : Nat} (h : a < 100) : nI a - 1 < 0 ↔ a = 0 := by
  rw [show (1 : Int32) = nI 1 from rfl, Int32.lt_iff_toInt_lt, pk_sub_toInt (by omega) (by omega), show (0 : Int32).toInt = 0 from by decide]
  omega
theorem kn_am2 {a b : Nat} (ha : a < 100) (hb : b < 100) : nI a - 1 ≤ nI b - 1 ↔ a ≤ b := by
  rw [show (1 : Int32) = nI 1 from rfl, Int32.le_iff_toInt_le, pk_sub_toInt (by omega) (by omega), pk_sub_toInt (by omega) (by omega)]
  omega
section
variable {f_made f_arrivals f_top f_many f_agains f_feeNow : Int32} {a_op a_number a_tokens a_used a_timed a_stack a_inCoin a_inA a_inB a_ins a_amount a_script a_outs a_fitting a_parent a_height a_work a_holds a_held a_rewardScript a_reward a_delivered a_arrival a_right a_wrong a_chain a_born a_spent a_since a_row a_fees a_taker a_again a_before : Nat → Int32} {oP tk ic ni nu sc rs nh hd pa he : Nat → Nat} {md bk : Nat} {wk ar : Nat → Nat}
theorem xx_b4 {post : Int32 → Prop} (b32 : bk ≤ 32) (Hw : kn_H a_work wk 400) (Ha : kn_H a_arrival ar 33) (Hr : kn_B a_wrong)
    (K : ∀ b, kb_M bk wk ar (fun c => ar c ≠ 0 ∧ a_wrong c = 0) b → post (nI b)) :
    ∀ (m i b n : Nat), i + m = bk → b < i → (ar b ≠ 0 ∧ a_wrong b = 0) → (∀ c, c < i → (ar c ≠ 0 ∧ a_wrong c = 0) → ¬ kb_bt wk ar c b) → m < n → wX_best_4 post f_made (nI bk) f_arrivals f_top f_many f_agains f_feeNow a_op a_number a_tokens a_used a_timed a_stack a_inCoin a_inA a_inB a_ins a_amount a_script a_outs a_fitting a_parent a_height a_work a_holds a_held a_rewardScript a_reward a_delivered a_arrival a_right a_wrong a_chain a_born a_spent a_since a_row a_fees a_taker a_again a_before n (nI b) (nI i) := by
  intro m
  induction m with
  | zero =>
    intro i b n e hb ob M hn
    obtain ⟨n, rfl⟩ : ∃ n', n = n' + 1 := ⟨n - 1, by omega⟩
    exact pk_le bk i (fun _ => K b ⟨by omega, ob, fun c hc => M c (by omega)⟩) (fun z => by omega)
  | succ m ih =>
    intro i b n e hb ob M hn
    obtain ⟨n, rfl⟩ : ∃ n', n = n' + 1 := ⟨n - 1, by omega⟩
    have ei : (nI i).toNatClampNeg = i := nI_clamp (by omega)
    have eb : (nI b).toNatClampNeg = b := nI_clamp (by omega)
    have wi := kn_l Hw i
    have wb := kn_l Hw b
    have ai := kn_l Ha i
    have ab := kn_l Ha b
    have skip : ¬ ((ar i ≠ 0 ∧ a_wrong i = 0) ∧ kb_bt wk ar i b) → wX_best_4 post f_made (nI bk) f_arrivals f_top f_many f_agains f_feeNow a_op a_number a_tokens a_used a_timed a_stack a_inCoin a_inA a_inB a_ins a_amount a_script a_outs a_fitting a_parent a_height a_work a_holds a_held a_rewardScript a_reward a_delivered a_arrival a_right a_wrong a_chain a_born a_spent a_since a_row a_fees a_taker a_again a_before n (nI b) (nI (i + 1)) := by
      intro z
      refine ih (i + 1) b n (by omega) (by omega) ob (fun c hc oc => ?_) (by omega)
      by_cases q : c = i
      · subst q; exact fun y => z ⟨oc, y⟩
      · exact M c (by omega) oc
    have take : (ar i ≠ 0 ∧ a_wrong i = 0) → kb_bt wk ar i b → wX_best_4 post f_made (nI bk) f_arrivals f_top f_many f_agains f_feeNow a_op a_number a_tokens a_used a_timed a_stack a_inCoin a_inA a_inB a_ins a_amount a_script a_outs a_fitting a_parent a_height a_work a_holds a_held a_rewardScript a_reward a_delivered a_arrival a_right a_wrong a_chain a_born a_spent a_since a_row a_fees a_taker a_again a_before n (nI i) (nI (i + 1)) := by
      intro oi z
      refine ih (i + 1) i n (by omega) (by omega) oi (fun c hc oc => ?_) (by omega)
      by_cases q : c = i
      · subst q; unfold kb_bt; omega
      · have := M c (by omega) oc
        unfold kb_bt at this z ⊢; omega
    have in32 : ∀ {j : Nat}, j < bk → vp_in (nI j) 32 := fun {j} h => pk_in j 32 (by omega)
    refine pk_le bk i (fun z => by omega) (fun _ => And.intro (in32 (by omega)) ?_)
    rw [ei, eb, kn_e Ha i, kn_e Ha b, kn_e Hw i, kn_e Hw b]
    refine pk_eq (ar i) 0 (fun z => nm_r (nI_1 i) (skip (fun y => y.1.1 z))) (fun za => And.intro (in32 (by omega)) (br_c (fun zw => ?_) (fun zw => nm_r (nI_1 i) (skip (fun y => zw y.1.2)))))
    refine And.intro (in32 (by omega)) (And.intro (in32 (by omega)) (pk_lt (wk b) (wk i) (fun y => nm_r (nI_1 i) (take ⟨za, zw⟩ (Or.inl y))) (fun y => And.intro (in32 (by omega)) (And.intro (in32 (by omega)) (pk_eq (wk i) (wk b) (fun q => And.intro (in32 (by omega)) (And.intro (in32 (by omega)) (pk_le (ar b) (ar i) (fun r => nm_r (nI_1 i) (skip (fun t => by have := t.2; unfold kb_bt at this; omega))) (fun r => nm_r (nI_1 i) (take ⟨za, zw⟩ (Or.inr ⟨q, r⟩)))))) (fun q => nm_r (nI_1 i) (skip (fun t => by have := t.2; unfold kb_bt at this; omega))))))))
theorem xx_best {post : Int32 → Prop} (b32 : bk ≤ 32) (b0 : 0 < bk) (Hw : kn_H a_work wk 400) (Ha : kn_H a_arrival ar 33) (Hr : kn_B a_wrong) (a0 : ar 0 ≠ 0) (w0 : a_wrong 0 = 0)
    (K : ∀ b, kb_M bk wk ar (fun c => ar c ≠ 0 ∧ a_wrong c = 0) b → post (nI b)) : wpX_best post (f_made, nI bk, f_arrivals, f_top, f_many, f_agains, f_feeNow, a_op, a_number, a_tokens, a_used, a_timed, a_stack, a_inCoin, a_inA, a_inB, a_ins, a_amount, a_script, a_outs, a_fitting, a_parent, a_height, a_work, a_holds, a_held, a_rewardScript, a_reward, a_delivered, a_arrival, a_right, a_wrong, a_chain, a_born, a_spent, a_since, a_row, a_fees, a_taker, a_again, a_before) :=
  ⟨bk, xx_b4 b32 Hw Ha Hr K (bk - 1) 1 0 bk (by omega) (by omega) ⟨a0, w0⟩ (fun c hc _ => by rw [show c = 0 by omega]; unfold kb_bt; omega) (by omega)⟩
/-- the next block that can arrive -/
def kb_can (dl : Nat → Int32) (ar pa : Nat → Nat) (b : Nat) : Prop := ¬ dl b = 0 ∧ ar b = 0 ∧ ar (pa b) ≠ 0
theorem xx_n2 (b32 : bk ≤ 32) (Ha : kn_H a_arrival ar 33) (Hp : kn_H a_parent pa 32) :
    ∀ (m i : Nat), i + m = bk → 1 ≤ i → (∀ b, 1 ≤ b → b < i → ¬ kb_can a_delivered ar pa b) →
    (∃ b, 1 ≤ b ∧ b < bk ∧ kb_can a_delivered ar pa b ∧ (∀ c, 1 ≤ c → c < b → ¬ kb_can a_delivered ar pa c) ∧ ∀ (post : Int32 → Prop), post (nI b) → ∀ n, m < n → wX_next_2 post f_made (nI bk) f_arrivals f_top f_many f_agains f_feeNow a_op a_number a_tokens a_used a_timed a_stack a_inCoin a_inA a_inB a_ins a_amount a_script a_outs a_fitting a_parent a_height a_work a_holds a_held a_rewardScript a_reward a_delivered a_arrival a_right a_wrong a_chain a_born a_spent a_since a_row a_fees a_taker a_again a_before n (nI i)) ∨
    ((∀ b, 1 ≤ b → b < bk → ¬ kb_can a_delivered ar pa b) ∧ ∀ (post : Int32 → Prop), post (-1) → ∀ n, m < n → wX_next_2 post f_made (nI bk) f_arrivals f_top f_many f_agains f_feeNow a_op a_number a_tokens a_used a_timed a_stack a_inCoin a_inA a_inB a_ins a_amount a_script a_outs a_fitting a_parent a_height a_work a_holds a_held a_rewardScript a_reward a_delivered a_arrival a_right a_wrong a_chain a_born a_spent a_since a_row a_fees a_taker a_again a_before n (nI i)) := by
  intro m
  induction m with
  | zero =>
    intro i e h1 M
    refine Or.inr ⟨fun b h2 h3 => M b h2 (by omega), fun post hp n hn => ?_⟩
    obtain ⟨n, rfl⟩ : ∃ n', n = n' + 1 := ⟨n - 1, by omega⟩
    exact pk_le bk i (fun _ => hp) (fun z => by omega)
  | succ m ih =>
    intro i e h1 M
    have ei : (nI i).toNatClampNeg = i := nI_clamp (by omega)
    have ai := kn_l Ha i
    have pl := kn_l Hp i
    have ap := kn_l Ha (pa i)
    have ep : (nI (pa i)).toNatClampNeg = pa i := nI_clamp (by omega)
    have in32 : vp_in (nI i) 32 := pk_in i 32 (by omega)
    have rnd : ∀ (post : Int32 → Prop) (n : Nat), (¬ kb_can a_delivered ar pa i → wX_next_2 post f_made (nI bk) f_arrivals f_top f_many f_agains f_feeNow a_op a_number a_tokens a_used a_timed a_stack a_inCoin a_inA a_inB a_ins a_amount a_script a_outs a_fitting a_parent a_height a_work a_holds a_held a_rewardScript a_reward a_delivered a_arrival a_right a_wrong a_chain a_born a_spent a_since a_row a_fees a_taker a_again a_before n (nI (i + 1))) → (kb_can a_delivered ar pa i → post (nI i)) → wX_next_2 post f_made (nI bk) f_arrivals f_top f_many f_agains f_feeNow a_op a_number a_tokens a_used a_timed a_stack a_inCoin a_inA a_inB a_ins a_amount a_script a_outs a_fitting a_parent a_height a_work a_holds a_held a_rewardScript a_reward a_delivered a_arrival a_right a_wrong a_chain a_born a_spent a_since a_row a_fees a_taker a_again a_before (n + 1) (nI i) := by
      intro post n k0 k1
      refine pk_le bk i (fun z => by omega) (fun _ => And.intro in32 ?_)
      rw [ei, kn_e Ha i, kn_e Hp i, ep, kn_e Ha (pa i)]
      exact br_c (fun z => nm_r (nI_1 i) (k0 (fun y => y.1 z))) (fun zd => And.intro in32 (pk_eq (ar i) 0 (fun za => And.intro in32 (And.intro (pk_in (pa i) 32 pl) (pk_le (ar (pa i)) 0 (fun zp => nm_r (nI_1 i) (k0 (fun y => y.2.2 (by omega)))) (fun zp => k1 ⟨zd, za, by omega⟩)))) (fun za => nm_r (nI_1 i) (k0 (fun y => za y.2.1)))))
    by_cases q : kb_can a_delivered ar pa i
    · refine Or.inl ⟨i, h1, by omega, q, M, fun post hp n hn => ?_⟩
      obtain ⟨n, rfl⟩ : ∃ n', n = n' + 1 := ⟨n - 1, by omega⟩
      exact rnd post n (fun z => absurd q z) (fun _ => hp)
    · have M' : ∀ b, 1 ≤ b → b < i + 1 → ¬ kb_can a_delivered ar pa b := fun b h2 h3 => by
        by_cases y : b = i
        · rw [y]; exact q
        · exact M b h2 (by omega)
      rcases ih (i + 1) (by omega) (by omega) M' with ⟨b, b1, b2, b3, b4, R⟩ | ⟨b1, R⟩
      · refine Or.inl ⟨b, b1, b2, b3, b4, fun post hp n hn => ?_⟩
        obtain ⟨n, rfl⟩ : ∃ n', n = n' + 1 := ⟨n - 1, by omega⟩
        exact rnd post n (fun _ => R post hp n (by omega)) (fun z => absurd z q)
      · refine Or.inr ⟨b1, fun post hp n hn => ?_⟩
        obtain ⟨n, rfl⟩ : ∃ n', n = n' + 1 := ⟨n - 1, by omega⟩
        exact rnd post n (fun _ => R post hp n (by omega)) (fun z => absurd z q)
theorem xx_next (b32 : bk ≤ 32) (b0 : 0 < bk) (Ha : kn_H a_arrival ar 33) (Hp : kn_H a_parent pa 32) :
    (∃ b, 1 ≤ b ∧ b < bk ∧ kb_can a_delivered ar pa b ∧ (∀ c, 1 ≤ c → c < b → ¬ kb_can a_delivered ar pa c) ∧ ∀ (post : Int32 → Prop), post (nI b) → wpX_next post (f_made, nI bk, f_arrivals, f_top, f_many, f_agains, f_feeNow, a_op, a_number, a_tokens, a_used, a_timed, a_stack, a_inCoin, a_inA, a_inB, a_ins, a_amount, a_script, a_outs, a_fitting, a_parent, a_height, a_work, a_holds, a_held, a_rewardScript, a_reward, a_delivered, a_arrival, a_right, a_wrong, a_chain, a_born, a_spent, a_since, a_row, a_fees, a_taker, a_again, a_before)) ∨
    ((∀ b, 1 ≤ b → b < bk → ¬ kb_can a_delivered ar pa b) ∧ ∀ (post : Int32 → Prop), post (-1) → wpX_next post (f_made, nI bk, f_arrivals, f_top, f_many, f_agains, f_feeNow, a_op, a_number, a_tokens, a_used, a_timed, a_stack, a_inCoin, a_inA, a_inB, a_ins, a_amount, a_script, a_outs, a_fitting, a_parent, a_height, a_work, a_holds, a_held, a_rewardScript, a_reward, a_delivered, a_arrival, a_right, a_wrong, a_chain, a_born, a_spent, a_since, a_row, a_fees, a_taker, a_again, a_before)) := by
  rcases xx_n2 (f_made := f_made) (f_arrivals := f_arrivals) (f_top := f_top) (f_many := f_many) (f_agains := f_agains) (f_feeNow := f_feeNow) (a_op := a_op) (a_number := a_number) (a_tokens := a_tokens) (a_used := a_used) (a_timed := a_timed) (a_stack := a_stack) (a_inCoin := a_inCoin) (a_inA := a_inA) (a_inB := a_inB) (a_ins := a_ins) (a_amount := a_amount) (a_script := a_script) (a_outs := a_outs) (a_fitting := a_fitting) (a_parent := a_parent) (a_height := a_height) (a_work := a_work) (a_holds := a_holds) (a_held := a_held) (a_rewardScript := a_rewardScript) (a_reward := a_reward) (a_delivered := a_delivered) (a_arrival := a_arrival) (a_right := a_right) (a_wrong := a_wrong) (a_chain := a_chain) (a_born := a_born) (a_spent := a_spent) (a_since := a_since) (a_row := a_row) (a_fees := a_fees) (a_taker := a_taker) (a_again := a_again) (a_before := a_before) b32 Ha Hp (bk - 1) 1 (by omega) (by omega) (fun b h1 h2 => by omega) with ⟨b, b1, b2, b3, b4, R⟩ | ⟨b1, R⟩
  · exact Or.inl ⟨b, b1, b2, b3, b4, fun post hp => ⟨bk, R post hp _ (by omega)⟩⟩
  · exact Or.inr ⟨b1, fun post hp => ⟨bk, R post hp _ (by omega)⟩⟩
end
/-- Y's works -/
def ky_W (bk : Nat) (pa wk : Nat → Nat) (bw : Nat → Int32) : Prop := bw 0 = nI (wk 0) ∧ ∀ b, 0 < b → b < bk → ∃ w, bw b = nI w ∧ wk b = wk (pa b) + w
section
variable {g_made g_blocks g_arrivals g_tip g_pooled g_chainLength : Int32} {b_op b_arg b_length b_ins b_inCoin b_inA b_inB b_outs b_amount b_lock b_parent b_work b_rewardLock b_height b_many b_holds b_delivered b_arrived b_pool b_chain b_from b_worth b_within b_spent b_stack b_again b_chosen : Nat → Int32} {oP tk ic ni nu sc rs nh hd pa he : Nat → Nat} {md bk : Nat} {wk ar : Nat → Nat}
theorem yy_wo4 {post : Int32 → Prop} (N : kd_N oP tk ic ni nu sc rs nh hd pa he md bk) (D : ky_D b_op b_arg b_length b_inCoin b_ins b_outs b_lock b_rewardLock b_many b_holds b_parent b_height oP tk ic ni nu sc rs nh hd pa he) (Hw : ky_W bk pa wk b_work) : ∀ (h b a n : Nat), he b = h → b < bk → post (nI (a + wk b)) → h + 1 < n → wY_workOf_4 post g_made g_blocks g_arrivals g_tip g_pooled g_chainLength b_op b_arg b_length b_ins b_inCoin b_inA b_inB b_outs b_amount b_lock b_parent b_work b_rewardLock b_height b_many b_holds b_delivered b_arrived b_pool b_chain b_from b_worth b_within b_spent b_stack b_again b_chosen n (nI a) (nI b) := by
  have b32 := kd_bk N
  intro h
  induction h with
  | zero =>
    intro b a n e hb hp hn
    have b0 : b = 0 := (kc_T_0 (kd_T N) hb).mp e
    subst b0
    obtain ⟨n, rfl⟩ : ∃ n', n = n' + 2 := ⟨n - 2, by omega⟩
    refine br_f (nI_pos (by omega)) (And.intro (pk_in 0 33 (by omega)) (nm_r (e' := nI (a + wk 0)) ?_ (And.intro (pk_in 0 33 (by omega)) (nm_r (e' := -1) ?_ (br_t kn_m1lt hp)))))
    · rw [nI_clamp (by omega), Hw.1, nI_add]
    · rw [nI_clamp (by omega)]; exact dy_p0 D
  | succ h ih =>
    intro b a n e hb hp hn
    obtain ⟨n, rfl⟩ : ∃ n', n = n' + 1 := ⟨n - 1, by omega⟩
    have s := kc_T_s (kd_T N) hb (by omega)
    have p0 : 0 < b := by
      rcases Nat.eq_zero_or_pos b with q | q
      · subst q; rw [(kd_T N).2.2.1] at e; omega
      · exact q
    obtain ⟨w, e1, e2⟩ := Hw.2 b p0 hb
    have ecl : (nI b).toNatClampNeg = b := nI_clamp (by omega)
    refine br_f (nI_pos (by omega)) (And.intro (pk_in b 33 (by omega)) (nm_r (e' := nI (a + w)) (by rw [ecl, e1, nI_add]) (And.intro (pk_in b 33 (by omega)) (nm_r (e' := nI (pa b)) (by rw [ecl]; exact dy_pa D p0) (ih (pa b) (a + w) n (by omega) (kc_T_p (kd_T N) hb) ?_ (by omega))))))
    rw [show a + w + wk (pa b) = a + wk b by omega]; exact hp
theorem yy_workOf {post : Int32 → Prop} {b : Nat} (N : kd_N oP tk ic ni nu sc rs nh hd pa he md bk) (D : ky_D b_op b_arg b_length b_inCoin b_ins b_outs b_lock b_rewardLock b_many b_holds b_parent b_height oP tk ic ni nu sc rs nh hd pa he) (Hw : ky_W bk pa wk b_work) (hb : b < bk) (hp : post (nI (wk b))) : wpY_workOf post (g_made, g_blocks, g_arrivals, g_tip, g_pooled, g_chainLength, b_op, b_arg, b_length, b_ins, b_inCoin, b_inA, b_inB, b_outs, b_amount, b_lock, b_parent, b_work, b_rewardLock, b_height, b_many, b_holds, b_delivered, b_arrived, b_pool, b_chain, b_from, b_worth, b_within, b_spent, b_stack, b_again, b_chosen) (nI b) :=
  ⟨he b + 2, yy_wo4 N D Hw (he b) b 0 _ rfl hb (by rw [Nat.zero_add]; exact hp) (by omega)⟩
end
section
variable {g_made g_arrivals g_tip g_pooled : Int32} {b_op b_arg b_length b_ins b_inCoin b_inA b_inB b_outs b_amount b_lock b_parent b_work b_rewardLock b_height b_many b_holds b_delivered b_arrived b_pool b_again b_chosen : Nat → Int32} {oP tk ic ni nu sc rs nh hd pa he : Nat → Nat} {md bk : Nat} {wk ar : Nat → Nat}
/-- the walk, whatever comes of it -/
theorem yy_walk2 {b : Nat} (hb : b < bk) (N : kd_N oP tk ic ni nu sc rs nh hd pa he md bk) (D : ky_D b_op b_arg b_length b_inCoin b_ins b_outs b_lock b_rewardLock b_many b_holds b_parent b_height oP tk ic ni nu sc rs nh hd pa he) {cl : Int32} {cn fr w wi sp st : Nat → Int32} (T : ky_T fr sp wi) :
    ∃ cl' cn' fr' w' wi' sp' st', ky_T fr' sp' wi' ∧ ∀ post : Int32 → SY → Prop, post (kn_b (kc_W ic ni nu b_amount (kf_fit oP b_arg tk ic b_inA b_inB sc rs) nh hd pa he b).isSome) (g_made, nI bk, g_arrivals, g_tip, g_pooled, cl', b_op, b_arg, b_length, b_ins, b_inCoin, b_inA, b_inB, b_outs, b_amount, b_lock, b_parent, b_work, b_rewardLock, b_height, b_many, b_holds, b_delivered, b_arrived, b_pool, cn', fr', w', wi', sp', st', b_again, b_chosen) → wpY_walk post (g_made, nI bk, g_arrivals, g_tip, g_pooled, cl, b_op, b_arg, b_length, b_ins, b_inCoin, b_inA, b_inB, b_outs, b_amount, b_lock, b_parent, b_work, b_rewardLock, b_height, b_many, b_holds, b_delivered, b_arrived, b_pool, cn, fr, w, wi, sp, st, b_again, b_chosen) (nI b) := by
  obtain ⟨R1, R0⟩ := yy_walk (g_made := g_made) (g_blocks := nI bk) (g_arrivals := g_arrivals) (g_tip := g_tip) (g_pooled := g_pooled) (g_chainLength := cl) (b_op := b_op) (b_arg := b_arg) (b_length := b_length) (b_ins := b_ins) (b_inCoin := b_inCoin) (b_inA := b_inA) (b_inB := b_inB) (b_outs := b_outs) (b_amount := b_amount) (b_lock := b_lock) (b_parent := b_parent) (b_work := b_work) (b_rewardLock := b_rewardLock) (b_height := b_height) (b_many := b_many) (b_holds := b_holds) (b_delivered := b_delivered) (b_arrived := b_arrived) (b_pool := b_pool) (b_chain := cn) (b_from := fr) (b_worth := w) (b_within := wi) (b_spent := sp) (b_stack := st) (b_again := b_again) (b_chosen := b_chosen) hb N D T
  cases z : kc_W ic ni nu b_amount (kf_fit oP b_arg tk ic b_inA b_inB sc rs) nh hd pa he b with
  | none =>
    obtain ⟨cl', cn', fr', sp', wi', w', st', T', R⟩ := R0 z
    exact ⟨cl', cn', fr', w', wi', sp', st', T', fun post hp => R post hp⟩
  | some K =>
    obtain ⟨w', st', c, C, ce, A, R⟩ := R1 K z
    exact ⟨_, _, K.1, w', K.2.2.1, K.2.1, st', ky_TI (kc_W_I' (kd_D N) (kd_T N) hb z), fun post hp => R post hp⟩
theorem yy_t4 (N : kd_N oP tk ic ni nu sc rs nh hd pa he md bk) (D : ky_D b_op b_arg b_length b_inCoin b_ins b_outs b_lock b_rewardLock b_many b_holds b_parent b_height oP tk ic ni nu sc rs nh hd pa he) (Hw : ky_W bk pa wk b_work) (wl : ∀ b, wk b < 400) (Ha : ∀ b, b < 32 → b_arrived b = nI (ar b) - 1 ∧ ar b < 33) :
    ∀ (m i best : Nat) (cl : Int32) (cn fr w wi sp st : Nat → Int32), i + m = bk → best < bk → (ar best ≠ 0 ∧ (kc_W ic ni nu b_amount (kf_fit oP b_arg tk ic b_inA b_inB sc rs) nh hd pa he best).isSome = true) → (∀ c, c < i → (ar c ≠ 0 ∧ (kc_W ic ni nu b_amount (kf_fit oP b_arg tk ic b_inA b_inB sc rs) nh hd pa he c).isSome = true) → ¬ kb_bt wk ar c best) → ky_T fr sp wi →
    ∃ B cl' cn' fr' w' wi' sp' st', kb_M bk wk ar (fun c => ar c ≠ 0 ∧ (kc_W ic ni nu b_amount (kf_fit oP b_arg tk ic b_inA b_inB sc rs) nh hd pa he c).isSome = true) B ∧ ky_T fr' sp' wi' ∧ ∀ post : SY → Prop, (∀ n, wY_findTip_4 post (n + 1) (nI B) (nI bk) g_made (nI bk) g_arrivals g_tip g_pooled cl' b_op b_arg b_length b_ins b_inCoin b_inA b_inB b_outs b_amount b_lock b_parent b_work b_rewardLock b_height b_many b_holds b_delivered b_arrived b_pool cn' fr' w' wi' sp' st' b_again b_chosen) → ∀ n, m < n → wY_findTip_4 post n (nI best) (nI i) g_made (nI bk) g_arrivals g_tip g_pooled cl b_op b_arg b_length b_ins b_inCoin b_inA b_inB b_outs b_amount b_lock b_parent b_work b_rewardLock b_height b_many b_holds b_delivered b_arrived b_pool cn fr w wi sp st b_again b_chosen := by
  have b32 := kd_bk N
  intro m
  induction m with
  | zero =>
    intro i best cl cn fr w wi sp st e hb ob M T
    refine ⟨best, cl, cn, fr, w, wi, sp, st, ⟨hb, ob, fun c hc => M c (by omega)⟩, T, fun post W n hn => ?_⟩
    obtain ⟨n, rfl⟩ : ∃ n', n = n' + 1 := ⟨n - 1, by omega⟩
    rw [show i = bk by omega]; exact W n
  | succ m ih =>
    intro i best cl cn fr w wi sp st e hb ob M T
    have ei : (nI i).toNatClampNeg = i := nI_clamp (by omega)
    have eb : (nI best).toNatClampNeg = best := nI_clamp (by omega)
    have in32 : ∀ {j : Nat}, j < bk → vp_in (nI j) 32 := fun {j} h => pk_in j 32 (by omega)
    obtain ⟨a1, a2⟩ := Ha i (by omega)
    obtain ⟨b1, b2⟩ := Ha best (by omega)
    have wi1 := wl i
    have wb1 := wl best
    have Mskip : ¬ ((ar i ≠ 0 ∧ (kc_W ic ni nu b_amount (kf_fit oP b_arg tk ic b_inA b_inB sc rs) nh hd pa he i).isSome = true) ∧ kb_bt wk ar i best) → ∀ c, c < i + 1 → (ar c ≠ 0 ∧ (kc_W ic ni nu b_amount (kf_fit oP b_arg tk ic b_inA b_inB sc rs) nh hd pa he c).isSome = true) → ¬ kb_bt wk ar c best := by
      intro z c hc oc
      by_cases q : c = i
      · subst q; exact fun y => z ⟨oc, y⟩
      · exact M c (by omega) oc
    by_cases za : ar i = 0
    · obtain ⟨B, cl', cn', fr', w', wi', sp', st', MB, T', R⟩ := ih (i + 1) best cl cn fr w wi sp st (by omega) hb ob (Mskip (fun y => y.1.1 za)) T
      refine ⟨B, cl', cn', fr', w', wi', sp', st', MB, T', fun post W n hn => ?_⟩
      obtain ⟨n, rfl⟩ : ∃ n', n = n' + 1 := ⟨n - 1, by omega⟩
      refine pk_le bk i (fun z => by omega) (fun _ => And.intro (in32 (by omega)) ?_)
      rw [ei, a1]
      exact br_t ((kn_am1 (by omega)).mpr za) (nm_r (nI_1 i) (R post W n (by omega)))
    · obtain ⟨cl1, cn1, fr1, w1, wi1', sp1, st1, T1, W1⟩ := yy_walk2 (g_made := g_made) (g_arrivals := g_arrivals) (g_tip := g_tip) (g_pooled := g_pooled) (b_op := b_op) (b_arg := b_arg) (b_length := b_length) (b_ins := b_ins) (b_inCoin := b_inCoin) (b_inA := b_inA) (b_inB := b_inB) (b_outs := b_outs) (b_amount := b_amount) (b_lock := b_lock) (b_parent := b_parent) (b_work := b_work) (b_rewardLock := b_rewardLock) (b_height := b_height) (b_many := b_many) (b_holds := b_holds) (b_delivered := b_delivered) (b_arrived := b_arrived) (b_pool := b_pool) (b_again := b_again) (b_chosen := b_chosen) (show i < bk by omega) N D (cl := cl) (cn := cn) (w := w) (st := st) T
      have rnd : ∀ (post : SY → Prop) (n best' : Nat), (kb_bt wk ar i best → (kc_W ic ni nu b_amount (kf_fit oP b_arg tk ic b_inA b_inB sc rs) nh hd pa he i).isSome = true → best' = i) → (¬ (kb_bt wk ar i best ∧ (kc_W ic ni nu b_amount (kf_fit oP b_arg tk ic b_inA b_inB sc rs) nh hd pa he i).isSome = true) → best' = best) → wY_findTip_4 post n (nI best') (nI (i + 1)) g_made (nI bk) g_arrivals g_tip g_pooled cl1 b_op b_arg b_length b_ins b_inCoin b_inA b_inB b_outs b_amount b_lock b_parent b_work b_rewardLock b_height b_many b_holds b_delivered b_arrived b_pool cn1 fr1 w1 wi1' sp1 st1 b_again b_chosen → wY_findTip_4 post (n + 1) (nI best) (nI i) g_made (nI bk) g_arrivals g_tip g_pooled cl b_op b_arg b_length b_ins b_inCoin b_inA b_inB b_outs b_amount b_lock b_parent b_work b_rewardLock b_height b_many b_holds b_delivered b_arrived b_pool cn fr w wi sp st b_again b_chosen := by
        intro post n best' k1 k0 R
        refine pk_le bk i (fun z => by omega) (fun _ => And.intro (in32 (by omega)) ?_)
        rw [ei, a1]
        refine br_f (fun z => za ((kn_am1 (by omega)).mp z)) (W1 _ ?_)
        cases zv : (kc_W ic ni nu b_amount (kf_fit oP b_arg tk ic b_inA b_inB sc rs) nh hd pa he i).isSome with
        | false =>
          rw [k0 (fun y => by rw [zv] at y; exact nomatch y.2)] at R
          exact br_t rfl (nm_r (nI_1 i) R)
        | true =>
          refine br_f kn_10 (yy_workOf N D Hw (by omega) (yy_workOf N D Hw hb (nm_e ?_)))
          have toInt : (nI (wk i) - nI (wk best)).toInt = (wk i : Int) - wk best := pk_sub_toInt (by omega) (by omega)
          by_cases c1 : wk best < wk i
          · rw [k1 (Or.inl c1) zv] at R
            refine br_t ?_ (nm_r (nI_1 i) R)
            rw [Int32.lt_iff_toInt_lt, toInt, show (0 : Int32).toInt = 0 from by decide]; omega
          · refine br_f ?_ ?_
            · rw [Int32.lt_iff_toInt_lt, toInt, show (0 : Int32).toInt = 0 from by decide]; omega
            · by_cases c2 : wk i = wk best
              · refine br_t (by rw [c2]; exact Int32.sub_self _) (And.intro (in32 (by omega)) (And.intro (in32 hb) ?_))
                rw [eb, a1, b1]
                by_cases c3 : ar best ≤ ar i
                · rw [k0 (fun y => by have := y.1; unfold kb_bt at this; omega)] at R
                  exact br_t ((kn_am2 (by omega) (by omega)).mpr c3) (nm_r (nI_1 i) R)
                · rw [k1 (Or.inr ⟨c2, by omega⟩) zv] at R
                  exact br_f (fun y => c3 ((kn_am2 (by omega) (by omega)).mp y)) (nm_r (nI_1 i) R)
              · rw [k0 (fun y => by have := y.1; unfold kb_bt at this; omega)] at R
                refine br_f (fun y => ?_) (nm_r (nI_1 i) R)
                rw [← Int32.toInt_inj, toInt, show (0 : Int32).toInt = 0 from by decide] at y; omega
      by_cases q : kb_bt wk ar i best ∧ (kc_W ic ni nu b_amount (kf_fit oP b_arg tk ic b_inA b_inB sc rs) nh hd pa he i).isSome = true
      · obtain ⟨B, cl', cn', fr', w', wi', sp', st', MB, T', R⟩ := ih (i + 1) i cl1 cn1 fr1 w1 wi1' sp1 st1 (by omega) (by omega) ⟨za, q.2⟩
          (fun c hc oc => by
            by_cases y : c = i
            · subst y; unfold kb_bt; omega
            · have h1 := M c (by omega) oc
              have h2 := q.1
              unfold kb_bt at h1 h2 ⊢; omega) T1
        refine ⟨B, cl', cn', fr', w', wi', sp', st', MB, T', fun post W n hn => ?_⟩
        obtain ⟨n, rfl⟩ : ∃ n', n = n' + 1 := ⟨n - 1, by omega⟩
        exact rnd post n i (fun _ _ => rfl) (fun y => absurd q y) (R post W n (by omega))
      · obtain ⟨B, cl', cn', fr', w', wi', sp', st', MB, T', R⟩ := ih (i + 1) best cl1 cn1 fr1 w1 wi1' sp1 st1 (by omega) hb ob (Mskip (fun y => q ⟨y.2, y.1.2⟩)) T1
        refine ⟨B, cl', cn', fr', w', wi', sp', st', MB, T', fun post W n hn => ?_⟩
        obtain ⟨n, rfl⟩ : ∃ n', n = n' + 1 := ⟨n - 1, by omega⟩
        exact rnd post n best (fun y z => absurd ⟨y, z⟩ q) (fun _ => rfl) (R post W n (by omega))
end
end
section
/-! ===== the pool: the pure picture ===== -/
theorem kq_b1 : ∀ i, i < 32 → bt 1 i = decide (i = 0) := by decide +kernel
theorem kq_z (y : Int32) : y &&& 1 = 0 ↔ bt y 0 = false := by
  constructor
  · intro h
    have := b_and y 1 0
    rw [h, b_0, kq_b1 0 (by omega)] at this
    simpa using this.symm
  · intro h
    refine b_ext (fun i hi => ?_)
    rw [b_and, b_0, kq_b1 i hi]
    by_cases e : i = 0
    · subst e; rw [h]; rfl
    · rw [decide_eq_false e, Bool.and_false]
theorem kq_o (y : Int32) : y &&& 1 = 1 ↔ bt y 0 = true := by
  constructor
  · intro h
    have := b_and y 1 0
    rw [h, kq_b1 0 (by omega)] at this
    simpa using this.symm
  · intro h
    refine b_ext (fun i hi => ?_)
    rw [b_and, kq_b1 i hi]
    by_cases e : i = 0
    · subst e; rw [h]; rfl
    · rw [decide_eq_false e, Bool.and_false]
theorem kq_u {k : Nat} (hk : k < 32) (x : Int32) : ((x.toUInt32 >>> ((nI k).toUInt32 &&& Int32.toUInt32 31)).toInt32 &&& 1) = 0 ↔ bt x k = false := by
  rw [kq_z, b_ushr k hk]; exact Iff.rfl
theorem kq_s0 {k : Nat} (hk : k < 32) (x : Int32) : ((x >>> (nI k &&& 31)) &&& 1) = 0 ↔ bt x k = false := by
  rw [kq_z, b_sshr k hk x (by omega), if_pos (by omega)]; exact Iff.rfl
theorem kq_s1 {k : Nat} (hk : k < 32) (x : Int32) : ((x >>> (nI k &&& 31)) &&& 1) = 1 ↔ bt x k = true := by
  rw [kq_o, b_sshr k hk x (by omega), if_pos (by omega)]; exact Iff.rfl
theorem kq_or {k : Nat} (hk : k < 32) (x : Int32) {j : Nat} : bt (x ||| ((1 : Int32) <<< (nI k &&& 31))) j = true ↔ (bt x j = true ∨ j = k) := by
  by_cases hj : j < 32
  · rw [b_or, b_shl k hk 1 hj, Bool.or_eq_true]
    have : (decide (k ≤ j) && bt 1 (j - k)) = true ↔ j = k := by
      rw [kq_b1 (j - k) (by omega), Bool.and_eq_true, decide_eq_true_iff, decide_eq_true_iff]
      omega
    rw [this]
  · rw [b_big (by omega)]
    constructor
    · intro h; exact nomatch h
    · intro h
      rcases h with h | h
      · rw [b_big (by omega)] at h; exact nomatch h
      · omega
theorem kq_andn {k : Nat} (hk : k < 32) (x : Int32) {j : Nat} (hj : j < 32) : bt (x &&& (((1 : Int32) <<< (nI k &&& 31)) ^^^ (-1))) j = true ↔ (bt x j = true ∧ j ≠ k) := by
  rw [b_and, Bool.and_eq_true]
  have : bt (((1 : Int32) <<< (nI k &&& 31)) ^^^ (-1)) j = true ↔ j ≠ k := by
    rw [b_xor, b_m1 j hj, b_shl k hk 1 hj, kq_b1 (j - k) (by omega), Bool.xor_true, Bool.not_eq_true', Bool.and_eq_false_iff, decide_eq_false_iff_not, decide_eq_false_iff_not]
    omega
  rw [this]
theorem kq_0 {x : Int32} : x = 0 ↔ ∀ j, bt x j = false := by
  constructor
  · intro h j; rw [h]; exact b_0 j
  · intro h; exact b_ext (fun i _ => by rw [h i, b_0])
theorem kq_ext {x y : Int32} (h : ∀ j, bt x j = true ↔ bt y j = true) : x = y := by
  refine b_ext (fun i _ => ?_)
  cases hx : bt x i with
  | true => exact ((h i).mp hx).symm
  | false =>
    cases hy : bt y i with
    | false => rfl
    | true => rw [(h i).mpr hy] at hx; exact nomatch hx
theorem kq_f {x : Int32} {k : Nat} : bt x k = false ↔ ¬ bt x k = true := by cases bt x k <;> simp
/-- c is a coin of an input of t; t needs u; t and u share a coin -/
def kp_in (ic ni : Nat → Nat) (t c : Nat) : Prop := ∃ i, 3 * t ≤ i ∧ i < 3 * t + ni t ∧ ic i = c
def kp_nd (ic ni : Nat → Nat) (t u : Nat) : Prop := ∃ i, 3 * t ≤ i ∧ i < 3 * t + ni t ∧ ic i < 120 ∧ ic i / 3 = u
def kp_sh (ic ni : Nat → Nat) (t u : Nat) : Prop := ∃ c, kp_in ic ni t c ∧ kp_in ic ni u c
def kp_P (ic ni : Nat → Nat) (md : Nat) (K : kc_K) (row : Nat → Nat) (mn : Nat) : Prop :=
  mn ≤ 12 ∧ (∀ k, k < mn → row k < md ∧ K.2.2.1 (row k) = -1) ∧ (∀ j k, j < mn → k < mn → row j = row k → j = k) ∧
  (∀ k, k < mn → ∀ i, 3 * row k ≤ i → i < 3 * row k + ni (row k) → ¬ K.1 (ic i) < 0 ∨ (ic i < 120 ∧ ∃ j, j < k ∧ row j = ic i / 3)) ∧
  (∀ j k c, j < mn → k < mn → kp_in ic ni (row j) c → kp_in ic ni (row k) c → j = k)
def kp_X (ic ni nu : Nat → Nat) (am rw : Nat → Int32) (row : Nat → Nat) (mn : Nat) (fees tkr : Nat → Int32) : Prop :=
  (∀ k, k < mn → fees k = kc_fee ic ni nu am (row k) (kc_av am rw)) ∧
  (∀ c, c < 152 → (tkr c = -1 ∧ ∀ k, k < mn → ¬ kp_in ic ni (row k) c) ∨ (∃ k, k < mn ∧ tkr c = nI (row k) ∧ kp_in ic ni (row k) c))
/-- who is hit when t comes -/
def kp_R (ic ni row : Nat → Nat) (mn t k : Nat) : Prop := ∀ S : Nat → Prop, (∀ k, k < mn → kp_sh ic ni t (row k) → S k) → (∀ i j, i < mn → j < mn → S j → kp_nd ic ni (row i) (row j) → S i) → S k
def kp_S (ic ni row : Nat → Nat) (mn t : Nat) (set : Int32) : Prop := ∀ k, bt set k = true ↔ (k < mn ∧ kp_R ic ni row mn t k)
theorem kp_S_u {ic ni row : Nat → Nat} {mn t : Nat} {x y : Int32} (a : kp_S ic ni row mn t x) (b : kp_S ic ni row mn t y) : x = y := kq_ext (fun j => (a j).trans (b j).symm)
theorem kp_R_b {ic ni row : Nat → Nat} {mn t k : Nat} (hk : k < mn) (h : kp_sh ic ni t (row k)) : kp_R ic ni row mn t k := fun _ h1 _ => h1 k hk h
theorem kp_R_s {ic ni row : Nat → Nat} {mn t i j : Nat} (hi : i < mn) (hj : j < mn) (h : kp_R ic ni row mn t j) (q : kp_nd ic ni (row i) (row j)) : kp_R ic ni row mn t i := fun S h1 h2 => h2 i j hi hj (h S h1 h2) q
/-- a set between that is closed is the one -/
theorem kp_S_i {ic ni row : Nat → Nat} {mn t : Nat} {set : Int32} (h1 : ∀ k, bt set k = true → k < mn ∧ kp_R ic ni row mn t k) (h2 : ∀ k, k < mn → kp_sh ic ni t (row k) → bt set k = true) (h3 : ∀ i j, i < mn → j < mn → bt set j = true → kp_nd ic ni (row i) (row j) → bt set i = true) : kp_S ic ni row mn t set :=
  fun k => ⟨h1 k, fun h => h.2 (fun k => bt set k = true) h2 h3⟩
/-- who needs another one stands behind it -/
theorem kp_topo {ic ni : Nat → Nat} {md : Nat} {K : kc_K} {row : Nat → Nat} {mn : Nat} {he : Nat → Nat} {h : Nat} (P : kp_P ic ni md K row mn) (I : kc_I he h K) {i j : Nat} (hi : i < mn) (hj : j < mn) (q : kp_nd ic ni (row i) (row j)) : j < i := by
  obtain ⟨x, h1, h2, h3, h4⟩ := q
  rcases P.2.2.2.1 i hi x h1 h2 with z | ⟨_, j', z1, z2⟩
  · refine absurd (kn_neg (I.2.2.2.2.1 (ic x) h3 ?_)) z
    rw [h4]; exact (P.2.1 j hj).2
  · have := P.2.2.1 j' j (by omega) hj (by rw [z2, h4])
    omega
/-- compaction -/
def kp_cc (set : Int32) : Nat → Nat → Nat → Nat
  | 0, _, n => n
  | m + 1, k, n => if bt set k = true then kp_cc set m (k + 1) n else kp_cc set m (k + 1) (n + 1)
def kp_ca {α : Type} (set : Int32) : Nat → Nat → Nat → (Nat → α) → (Nat → α)
  | 0, _, _, g => g
  | m + 1, k, n, g => if bt set k = true then kp_ca set m (k + 1) n g else kp_ca set m (k + 1) (n + 1) (fun j => if j = n then g k else g j)
theorem kp_sig {set : Int32} : ∀ (m k n : Nat), n ≤ k → n ≤ kp_cc set m k n ∧ kp_cc set m k n ≤ n + m ∧ ∃ σ : Nat → Nat, (∀ j, n ≤ j → j < kp_cc set m k n → k ≤ σ j ∧ σ j < k + m ∧ bt set (σ j) = false) ∧ (∀ i j, n ≤ i → i < j → j < kp_cc set m k n → σ i < σ j) ∧
    (∀ k', k ≤ k' → k' < k + m → bt set k' = false → ∃ j, n ≤ j ∧ j < kp_cc set m k n ∧ σ j = k') ∧ ∀ (α : Type) (g : Nat → α) (j : Nat), (j < n → kp_ca set m k n g j = g j) ∧ (n ≤ j → j < kp_cc set m k n → kp_ca set m k n g j = g (σ j)) := by
  intro m
  induction m with
  | zero =>
    intro k n h
    have e : kp_cc set 0 k n = n := rfl
    rw [e]
    exact ⟨Nat.le_refl _, Nat.le_refl _, fun j => j, fun j h1 h2 => by omega, fun i j h1 h2 h3 => by omega, fun k' h1 h2 => by omega, fun α g j => ⟨fun _ => rfl, fun h1 h2 => by omega⟩⟩
  | succ m ih =>
    intro k n h
    by_cases z : bt set k = true
    · have ec : kp_cc set (m + 1) k n = kp_cc set m (k + 1) n := if_pos z
      rw [ec]
      obtain ⟨u1, u2, σ, s1, s2, s3, s4⟩ := ih (k + 1) n (by omega)
      refine ⟨u1, by omega, σ, fun j h1 h2 => ?_, s2, fun k' h1 h2 h3 => ?_, fun α g j => ?_⟩
      · have := s1 j h1 h2; exact ⟨by omega, by omega, this.2.2⟩
      · by_cases y : k' = k
        · rw [y, z] at h3; exact nomatch h3
        · exact s3 k' (by omega) (by omega) h3
      · have ea : kp_ca set (m + 1) k n g = kp_ca set m (k + 1) n g := if_pos z
        rw [ea]; exact s4 α g j
    · have ec : kp_cc set (m + 1) k n = kp_cc set m (k + 1) (n + 1) := if_neg z
      rw [ec]
      obtain ⟨u1, u2, σ, s1, s2, s3, s4⟩ := ih (k + 1) (n + 1) (by omega)
      have sn : (fun j => if j = n then k else σ j) n = k := if_pos rfl
      have sj : ∀ j, n + 1 ≤ j → (fun j => if j = n then k else σ j) j = σ j := fun j hj => if_neg (by omega)
      refine ⟨by omega, by omega, fun j => if j = n then k else σ j, fun j h1 h2 => ?_, fun i j h1 h2 h3 => ?_, fun k' h1 h2 h3 => ?_, fun α g j => ?_⟩
      · by_cases y : j = n
        · subst y; rw [sn]; exact ⟨by omega, by omega, kq_f.mpr z⟩
        · rw [sj j (by omega)]
          have := s1 j (by omega) h2; exact ⟨by omega, by omega, this.2.2⟩
      · rw [sj j (by omega)]
        have a := s1 j (by omega) h3
        by_cases y : i = n
        · subst y; rw [sn]; omega
        · rw [sj i (by omega)]; exact s2 i j (by omega) h2 h3
      · by_cases y : k' = k
        · exact ⟨n, Nat.le_refl _, by omega, by rw [sn, y]⟩
        · obtain ⟨j, a1, a2, a3⟩ := s3 k' (by omega) (by omega) h3
          exact ⟨j, by omega, a2, by rw [sj j a1]; exact a3⟩
      · have ea : kp_ca set (m + 1) k n g = kp_ca set m (k + 1) (n + 1) (fun j => if j = n then g k else g j) := if_neg z
        rw [ea]
        obtain ⟨a1, a2⟩ := s4 α (fun j => if j = n then g k else g j) j
        refine ⟨fun hj => ?_, fun h1 h2 => ?_⟩
        · rw [a1 (by omega)]; exact if_neg (by omega)
        · by_cases y : j = n
          · subst y
            rw [a1 (by omega), sn]; exact if_pos rfl
          · have a := s1 j (by omega) h2
            rw [a2 (by omega) h2, sj j (by omega)]; exact if_neg (by omega)
theorem kp_ca_H {set : Int32} {a : Nat → Int32} {f : Nat → Nat} {M : Nat} : ∀ (m k n : Nat) (a : Nat → Int32) (f : Nat → Nat), kn_H a f M → kn_H (kp_ca set m k n a) (kp_ca set m k n f) M := by
  intro m
  induction m with
  | zero => intro k n a f h; exact h
  | succ m ih =>
    intro k n a f h
    by_cases z : bt set k = true
    · have e1 : kp_ca set (m + 1) k n a = kp_ca set m (k + 1) n a := if_pos z
      have e2 : kp_ca set (m + 1) k n f = kp_ca set m (k + 1) n f := if_pos z
      rw [e1, e2]; exact ih _ _ _ _ h
    · have e1 : kp_ca set (m + 1) k n a = kp_ca set m (k + 1) (n + 1) (fun j => if j = n then a k else a j) := if_neg z
      have e2 : kp_ca set (m + 1) k n f = kp_ca set m (k + 1) (n + 1) (fun j => if j = n then f k else f j) := if_neg z
      rw [e1, e2]
      refine ih _ _ _ _ (fun i => ?_)
      by_cases y : i = n
      · show (if i = n then a k else a i) = nI (if i = n then f k else f i) ∧ (if i = n then f k else f i) < M
        rw [if_pos y, if_pos y]; exact h k
      · show (if i = n then a k else a i) = nI (if i = n then f k else f i) ∧ (if i = n then f k else f i) < M
        rw [if_neg y, if_neg y]; exact h i
/-- the takers that go -/
def kp_ct (ic ni row : Nat → Nat) (set : Int32) : Nat → Nat → (Nat → Int32) → (Nat → Int32)
  | 0, _, g => g
  | m + 1, k, g => kp_ct ic ni row set m (k + 1) (if bt set k = true then kc_sg ic (fun _ => -1) (ni (row k)) (3 * row k) g else g)
theorem kp_ct_v {ic ni row : Nat → Nat} {set : Int32} {c : Nat} : ∀ (m k : Nat) (g : Nat → Int32),
    ((∃ k', k ≤ k' ∧ k' < k + m ∧ bt set k' = true ∧ kp_in ic ni (row k') c) ∨ g c = -1 → kp_ct ic ni row set m k g c = -1) ∧ ((∀ k', k ≤ k' → k' < k + m → bt set k' = true → ¬ kp_in ic ni (row k') c) → kp_ct ic ni row set m k g c = g c) := by
  intro m
  induction m with
  | zero =>
    intro k g
    refine ⟨fun h => ?_, fun _ => rfl⟩
    rcases h with ⟨k', h1, h2, _⟩ | h
    · omega
    · exact h
  | succ m ih =>
    intro k g
    have e : kp_ct ic ni row set (m + 1) k g = kp_ct ic ni row set m (k + 1) (if bt set k = true then kc_sg ic (fun _ => -1) (ni (row k)) (3 * row k) g else g) := rfl
    rw [e]
    obtain ⟨i1, i2⟩ := ih (k + 1) (if bt set k = true then kc_sg ic (fun _ => -1) (ni (row k)) (3 * row k) g else g)
    have keep : g c = -1 → (if bt set k = true then kc_sg ic (fun _ => -1) (ni (row k)) (3 * row k) g else g) c = -1 := by
      intro h
      by_cases z : bt set k = true
      · rw [if_pos z]
        by_cases q : ∃ j, 3 * row k ≤ j ∧ j < 3 * row k + ni (row k) ∧ ic j = c
        · exact kc_sg_in _ _ _ q
        · rw [kc_sg_out _ _ _ (fun j h1 h2 h3 => q ⟨j, h1, h2, h3⟩)]; exact h
      · rw [if_neg z]; exact h
    refine ⟨fun h => i1 ?_, fun h => ?_⟩
    · rcases h with ⟨k', h1, h2, h3, h4⟩ | h
      · by_cases y : k' = k
        · subst y
          rw [if_pos h3]
          exact Or.inr (kc_sg_in _ _ _ h4)
        · exact Or.inl ⟨k', by omega, by omega, h3, h4⟩
      · exact Or.inr (keep h)
    · rw [i2 (fun k' h1 h2 => h k' (by omega) (by omega))]
      by_cases z : bt set k = true
      · rw [if_pos z]
        exact kc_sg_out _ _ _ (fun j h1 h2 h3 => h k (Nat.le_refl _) (by omega) z ⟨j, h1, h2, h3⟩)
      · rw [if_neg z]
section
variable {ic ni nu : Nat → Nat} {am rw : Nat → Int32} {md mn t : Nat} {K : kc_K} {row : Nat → Nat} {set : Int32}
/-- what is kept when the set goes -/
theorem kp_exp (P : kp_P ic ni md K row mn) (S : kp_S ic ni row mn t set) : kp_cc set mn 0 0 ≤ mn ∧ kp_P ic ni md K (kp_ca set mn 0 0 row) (kp_cc set mn 0 0) ∧
    (∀ j, j < kp_cc set mn 0 0 → ∃ k, k < mn ∧ bt set k = false ∧ kp_ca set mn 0 0 row j = row k ∧ ∀ f : Nat → Int32, kp_ca set mn 0 0 f j = f k) ∧ (∀ k, k < mn → bt set k = false → ∃ j, j < kp_cc set mn 0 0 ∧ kp_ca set mn 0 0 row j = row k) := by
  obtain ⟨u1, u2, σ, s1, s2, s3, s4⟩ := kp_sig (set := set) mn 0 0 (Nat.le_refl _)
  obtain ⟨p1, p2, p3, p4, p5⟩ := P
  have ev : ∀ j, j < kp_cc set mn 0 0 → kp_ca set mn 0 0 row j = row (σ j) := fun j hj => (s4 Nat row j).2 (by omega) hj
  have sl : ∀ j, j < kp_cc set mn 0 0 → σ j < mn := fun j hj => by have := s1 j (by omega) hj; omega
  have si : ∀ i j, i < kp_cc set mn 0 0 → j < kp_cc set mn 0 0 → σ i = σ j → i = j := by
    intro i j hi hj e
    rcases Nat.lt_trichotomy i j with q | q | q
    · have := s2 i j (by omega) q hj; omega
    · exact q
    · have := s2 j i (by omega) q hi; omega
  refine ⟨by omega, ⟨by omega, fun k hk => ?_, fun j k hj hk e => ?_, fun k hk i h1 h2 => ?_, fun j k c hj hk h1 h2 => ?_⟩, fun j hj => ⟨σ j, sl j hj, (s1 j (by omega) hj).2.2, ev j hj, fun f => (s4 Int32 f j).2 (by omega) hj⟩, fun k hk hb => ?_⟩
  · rw [ev k hk]; exact p2 _ (sl k hk)
  · rw [ev j hj, ev k hk] at e
    exact si j k hj hk (p3 _ _ (sl j hj) (sl k hk) e)
  · rw [ev k hk] at h1 h2
    rcases p4 (σ k) (sl k hk) i h1 h2 with z | ⟨z, j0, z1, z2⟩
    · exact Or.inl z
    · refine Or.inr ⟨z, ?_⟩
      have nb : bt set j0 = false := by
        refine kq_f.mpr (fun y => ?_)
        have r := (S j0).mp y
        have : bt set (σ k) = true := (S (σ k)).mpr ⟨sl k hk, kp_R_s (sl k hk) r.1 r.2 ⟨i, h1, h2, z, z2.symm⟩⟩
        rw [(s1 k (by omega) hk).2.2] at this; exact nomatch this
      obtain ⟨j1, a1, a2, a3⟩ := s3 j0 (by omega) (by have := sl k hk; omega) nb
      refine ⟨j1, ?_, by rw [ev j1 a2, a3]; exact z2⟩
      rcases Nat.lt_trichotomy j1 k with q | q | q
      · exact q
      · subst q; omega
      · have := s2 k j1 (by omega) q a2; omega
  · rw [ev j hj] at h1
    rw [ev k hk] at h2
    exact si j k hj hk (p5 _ _ c (sl j hj) (sl k hk) h1 h2)
  · obtain ⟨j, a1, a2, a3⟩ := s3 k (by omega) (by omega) hb
    exact ⟨j, a2, by rw [ev j a2, a3]⟩
theorem kp_expX {fees tkr : Nat → Int32} (P : kp_P ic ni md K row mn) (S : kp_S ic ni row mn t set) (X : kp_X ic ni nu am rw row mn fees tkr) : kp_X ic ni nu am rw (kp_ca set mn 0 0 row) (kp_cc set mn 0 0) (kp_ca set mn 0 0 fees) (kp_ct ic ni row set mn 0 tkr) := by
  obtain ⟨e1, e2, e3, e4⟩ := kp_exp P S
  refine ⟨fun k hk => ?_, fun c hc => ?_⟩
  · obtain ⟨j, h1, h2, h3, h4⟩ := e3 k hk
    rw [h3, h4 fees]; exact X.1 j h1
  · obtain ⟨v1, v2⟩ := kp_ct_v (ic := ic) (ni := ni) (row := row) (set := set) (c := c) mn 0 tkr
    rcases X.2 c hc with ⟨z1, z2⟩ | ⟨k, z1, z2, z3⟩
    · refine Or.inl ⟨v1 (Or.inr z1), fun k hk => ?_⟩
      obtain ⟨j, h1, h2, h3, _⟩ := e3 k hk
      rw [h3]; exact z2 j h1
    · by_cases b : bt set k = true
      · refine Or.inl ⟨v1 (Or.inl ⟨k, by omega, by omega, b, z3⟩), fun k' hk' q => ?_⟩
        obtain ⟨j, h1, h2, h3, _⟩ := e3 k' hk'
        rw [h3] at q
        have := P.2.2.2.2 j k c h1 z1 q z3
        subst this
        rw [b] at h2; exact nomatch h2
      · obtain ⟨j, h1, h2⟩ := e4 k z1 (kq_f.mpr b)
        refine Or.inr ⟨j, h1, ?_, by rw [h2]; exact z3⟩
        rw [h2, v2 (fun k' h1 h2 h3 h4 => ?_)]
        · exact z2
        · have := P.2.2.2.2 k' k c (by omega) z1 h4 z3
          subst this
          exact b h3
/-- what comes in -/
theorem kp_ins (P : kp_P ic ni md K row mn) (h12 : mn < 12) (ht : t < md) (hw : K.2.2.1 t = -1) (hn : ∀ k, k < mn → row k ≠ t) (hs : ∀ k, k < mn → ¬ kp_sh ic ni t (row k))
    (ho : ∀ i, 3 * t ≤ i → i < 3 * t + ni t → ¬ K.1 (ic i) < 0 ∨ (ic i < 120 ∧ ∃ j, j < mn ∧ row j = ic i / 3)) : kp_P ic ni md K (kn_u row mn t) (mn + 1) := by
  obtain ⟨p1, p2, p3, p4, p5⟩ := P
  have un : ∀ k, k < mn → kn_u row mn t k = row k := fun k hk => kn_un (by omega)
  refine ⟨by omega, fun k hk => ?_, fun j k hj hk e => ?_, fun k hk i h1 h2 => ?_, fun j k c hj hk h1 h2 => ?_⟩
  · by_cases q : k = mn
    · subst q; rw [kn_us]; exact ⟨ht, hw⟩
    · rw [un k (by omega)]; exact p2 k (by omega)
  · by_cases q1 : j = mn
    · by_cases q2 : k = mn
      · omega
      · rw [q1, kn_us, un k (by omega)] at e; exact absurd e.symm (hn k (by omega))
    · by_cases q2 : k = mn
      · rw [q2, kn_us, un j (by omega)] at e; exact absurd e (hn j (by omega))
      · rw [un j (by omega), un k (by omega)] at e; exact p3 j k (by omega) (by omega) e
  · by_cases q : k = mn
    · subst q
      rw [kn_us] at h1 h2
      rcases ho i h1 h2 with z | ⟨z, j, z1, z2⟩
      · exact Or.inl z
      · exact Or.inr ⟨z, j, z1, by rw [un j z1]; exact z2⟩
    · rw [un k (by omega)] at h1 h2
      rcases p4 k (by omega) i h1 h2 with z | ⟨z, j, z1, z2⟩
      · exact Or.inl z
      · exact Or.inr ⟨z, j, z1, by rw [un j (by omega)]; exact z2⟩
  · by_cases q1 : j = mn
    · by_cases q2 : k = mn
      · omega
      · rw [q1, kn_us] at h1
        rw [un k (by omega)] at h2
        exact absurd ⟨c, h1, h2⟩ (hs k (by omega))
    · by_cases q2 : k = mn
      · rw [q2, kn_us] at h2
        rw [un j (by omega)] at h1
        exact absurd ⟨c, h2, h1⟩ (hs j (by omega))
      · rw [un j (by omega)] at h1
        rw [un k (by omega)] at h2
        exact p5 j k c (by omega) (by omega) h1 h2
theorem kp_insX {fees tkr : Nat → Int32} (X : kp_X ic ni nu am rw row mn fees tkr) (hs : ∀ k, k < mn → ¬ kp_sh ic ni t (row k)) :
    kp_X ic ni nu am rw (kn_u row mn t) (mn + 1) (upd fees mn (kc_fee ic ni nu am t (kc_av am rw))) (kc_sg ic (fun _ => nI t) (ni t) (3 * t) tkr) := by
  have un : ∀ k, k < mn → kn_u row mn t k = row k := fun k hk => kn_un (by omega)
  refine ⟨fun k hk => ?_, fun c hc => ?_⟩
  · by_cases q : k = mn
    · subst q; rw [pk_us, kn_us]
    · rw [pk_un q, un k (by omega)]; exact X.1 k (by omega)
  · by_cases q : kp_in ic ni t c
    · refine Or.inr ⟨mn, by omega, ?_, by rw [kn_us]; exact q⟩
      rw [kn_us]; exact kc_sg_in _ _ _ q
    · rw [kc_sg_out _ _ _ (fun j h1 h2 h3 => q ⟨j, h1, h2, h3⟩)]
      rcases X.2 c hc with ⟨z1, z2⟩ | ⟨k, z1, z2, z3⟩
      · refine Or.inl ⟨z1, fun k hk => ?_⟩
        by_cases q2 : k = mn
        · subst q2; rw [kn_us]; exact q
        · rw [un k (by omega)]; exact z2 k (by omega)
      · exact Or.inr ⟨k, by omega, by rw [un k z1]; exact z2, by rw [un k z1]; exact z3⟩
/-- the fees of the set -/
def kp_fs (set : Int32) (f : Nat → Int32) : Nat → Nat → Int32 → Int32
  | 0, _, a => a
  | m + 1, k, a => kp_fs set f m (k + 1) (if bt set k = true then a + f k else a)
theorem kp_fs_cg {f g : Nat → Int32} : ∀ (m k : Nat) (a : Int32), (∀ j, k ≤ j → j < k + m → f j = g j) → kp_fs set f m k a = kp_fs set g m k a
  | 0, _, _, _ => rfl
  | m + 1, k, a, h => by
    show kp_fs set f m (k + 1) (if bt set k = true then a + f k else a) = kp_fs set g m (k + 1) (if bt set k = true then a + g k else a)
    rw [h k (Nat.le_refl _) (by omega)]
    exact kp_fs_cg m (k + 1) _ (fun j h1 h2 => h j (by omega) (by omega))
end
end
section
/-! ===== X: the pool ===== -/
def kp_pl (row : Nat → Nat) (mn c : Nat) : Prop := c < 120 ∧ ∃ k, k < mn ∧ row k = c / 3
def kp_ok1 (ic : Nat → Nat) (fit : Nat → Int32 → Int32 → Bool) (row : Nat → Nat) (mn h : Nat) (fr sp : Nat → Int32) (i : Nat) : Prop :=
  (kp_pl row mn (ic i) ∧ fit i (nI h) (nI h) = true) ∨ (¬ kp_pl row mn (ic i) ∧ kc_ok1 ic fit h fr sp i)
theorem kp_pl_n {ic ni : Nat → Nat} {md : Nat} {K : kc_K} {row : Nat → Nat} {mn : Nat} {he : Nat → Nat} {h c : Nat} (P : kp_P ic ni md K row mn) (I : kc_I he h K) (q : kp_pl row mn c) : K.1 c = -1 := by
  obtain ⟨h1, k, h2, h3⟩ := q
  refine I.2.2.2.2.1 c h1 ?_
  rw [← h3]; exact (P.2.1 k h2).2
theorem kn_d3 {c : Nat} (h : c < 2 ^ 31) : nI c / 3 = nI (c / 3) := pk_div (d := 3) h (by omega) (by omega)
section
variable {f_made f_blocks f_arrivals f_top f_agains f_feeNow : Int32} {a_op a_number a_tokens a_used a_timed a_stack a_inCoin a_inA a_inB a_ins a_amount a_script a_outs a_fitting a_parent a_height a_work a_holds a_held a_rewardScript a_reward a_delivered a_arrival a_right a_wrong a_chain a_born a_spent a_since a_row a_fees a_taker a_again a_before : Nat → Int32} {oP tk ic ni nu sc rs nh hd pa he : Nat → Nat} {md bk : Nat} {mn : Nat} {row : Nat → Nat}
theorem xx_ip2 {post : Int32 → Prop} {x : Nat} (hx : x < 100) (h12 : mn ≤ 12) (Hr : kn_H a_row row 40) (k1 : ∀ k, k < mn → row k = x → post (nI k)) (k0 : (∀ k, k < mn → row k ≠ x) → post (-1)) :
    ∀ (m i n : Nat), i + m = mn → (∀ j, j < i → row j ≠ x) → m < n → wX_inPool_2 post (nI x) f_made f_blocks f_arrivals f_top (nI mn) f_agains f_feeNow a_op a_number a_tokens a_used a_timed a_stack a_inCoin a_inA a_inB a_ins a_amount a_script a_outs a_fitting a_parent a_height a_work a_holds a_held a_rewardScript a_reward a_delivered a_arrival a_right a_wrong a_chain a_born a_spent a_since a_row a_fees a_taker a_again a_before n (nI i) := by
  intro m
  induction m with
  | zero =>
    intro i n e M hn
    obtain ⟨n, rfl⟩ : ∃ n', n = n' + 1 := ⟨n - 1, by omega⟩
    exact pk_le mn i (fun _ => pk_le mn i (fun _ => k0 (fun k hk => M k (by omega))) (fun z => by omega)) (fun z => by omega)
  | succ m ih =>
    intro i n e M hn
    obtain ⟨n, rfl⟩ : ∃ n', n = n' + 1 := ⟨n - 1, by omega⟩
    have rl := kn_l Hr i
    refine pk_le mn i (fun z => by omega) (fun _ => And.intro (pk_in i 12 (by omega)) ?_)
    rw [kn_at Hr i]
    refine pk_eq (row i) x (fun z => pk_le mn i (fun z => by omega) (fun _ => k1 i (by omega) z)) (fun z => nm_r (nI_1 i) (ih (i + 1) n (by omega) (fun j hj => ?_) (by omega)))
    by_cases q : j = i
    · rw [q]; exact z
    · exact M j (by omega)
theorem xx_inPool {post : Int32 → Prop} {x : Nat} (hx : x < 100) (h12 : mn ≤ 12) (Hr : kn_H a_row row 40) (k1 : ∀ k, k < mn → row k = x → post (nI k)) (k0 : (∀ k, k < mn → row k ≠ x) → post (-1)) : wpX_inPool post (f_made, f_blocks, f_arrivals, f_top, nI mn, f_agains, f_feeNow, a_op, a_number, a_tokens, a_used, a_timed, a_stack, a_inCoin, a_inA, a_inB, a_ins, a_amount, a_script, a_outs, a_fitting, a_parent, a_height, a_work, a_holds, a_held, a_rewardScript, a_reward, a_delivered, a_arrival, a_right, a_wrong, a_chain, a_born, a_spent, a_since, a_row, a_fees, a_taker, a_again, a_before) (nI x) :=
  ⟨mn + 1, xx_ip2 hx h12 Hr k1 k0 mn 0 _ (by omega) (fun j hj => by omega) (by omega)⟩
theorem xx_l4 {post : Int32 → Prop} {t : Nat} {set : Int32} (ht : t < 40) (h12 : mn ≤ 12) (Hr : kn_H a_row row 40) (inj : ∀ j k, j < mn → k < mn → row j = row k → j = k) (D : kx_D a_op a_number a_tokens a_timed a_inCoin a_ins a_outs a_script a_rewardScript a_holds a_held a_parent a_height oP tk ic ni nu sc rs nh hd pa he)
    (k1 : (∃ j, j < mn ∧ bt set j = true ∧ kp_nd ic ni t (row j)) → post 1) (k0 : (∀ j, j < mn → bt set j = true → ¬ kp_nd ic ni t (row j)) → post 0) :
    ∀ (m i n : Nat), i + m = 3 * t + ni t → 3 * t ≤ i → (∀ j, j < mn → bt set j = true → ∀ x, 3 * t ≤ x → x < i → ¬ (ic x < 120 ∧ ic x / 3 = row j)) → m < n → wX_leans_4 post (nI t) set f_made f_blocks f_arrivals f_top (nI mn) f_agains f_feeNow a_op a_number a_tokens a_used a_timed a_stack a_inCoin a_inA a_inB a_ins a_amount a_script a_outs a_fitting a_parent a_height a_work a_holds a_held a_rewardScript a_reward a_delivered a_arrival a_right a_wrong a_chain a_born a_spent a_since a_row a_fees a_taker a_again a_before n (nI i) := by
  have d := kn_l (dx_ni D) t
  intro m
  induction m with
  | zero =>
    intro i n e h3 M hn
    obtain ⟨n, rfl⟩ : ∃ n', n = n' + 1 := ⟨n - 1, by omega⟩
    refine And.intro (pk_in t 41 (by omega)) (pk_le (3 * t + ni t) i (fun _ => k0 (fun j hj hb q => ?_)) (fun z => by omega) (kn_e3 (dx_ni D) t))
    obtain ⟨x, x1, x2, x3, x4⟩ := q
    exact M j hj hb x x1 (by omega) ⟨x3, x4⟩
  | succ m ih =>
    intro i n e h3 M hn
    obtain ⟨n, rfl⟩ : ∃ n', n = n' + 1 := ⟨n - 1, by omega⟩
    have c := kn_at (dx_ic D) i
    have cl := kn_l (dx_ic D) i
    have skip : (∀ j, j < mn → bt set j = true → ¬ (ic i < 120 ∧ ic i / 3 = row j)) → wX_leans_4 post (nI t) set f_made f_blocks f_arrivals f_top (nI mn) f_agains f_feeNow a_op a_number a_tokens a_used a_timed a_stack a_inCoin a_inA a_inB a_ins a_amount a_script a_outs a_fitting a_parent a_height a_work a_holds a_held a_rewardScript a_reward a_delivered a_arrival a_right a_wrong a_chain a_born a_spent a_since a_row a_fees a_taker a_again a_before n (nI (i + 1)) := by
      intro q
      refine ih (i + 1) n (by omega) (by omega) (fun j hj hb x x1 x2 => ?_) (by omega)
      by_cases y : x = i
      · subst y; exact q j hj hb
      · exact M j hj hb x x1 (by omega)
    refine And.intro (pk_in t 41 (by omega)) (pk_le (3 * t + ni t) i (fun _ => by omega) (fun z => And.intro (pk_in i 123 (by omega)) (nm_r c ?_)) (kn_e3 (dx_ni D) t))
    refine pk_le 120 (ic i) (fun z => br_t kn_m1lt (nm_r (nI_1 i) (skip (fun j _ _ q => by omega)))) (fun z => And.intro (by decide) ?_)
    rw [kn_d3 (by omega)]
    refine xx_inPool (by omega) h12 Hr (fun k hk ek => br_f (nI_pos (by omega)) ?_) (fun q => br_t kn_m1lt (nm_r (nI_1 i) (skip (fun j hj _ y => q j hj y.2.symm))))
    cases b : bt set k with
    | false =>
      refine br_t ((kq_u (by omega) set).mpr b) (nm_r (nI_1 i) (skip (fun j hj hb y => ?_)))
      have := inj j k hj hk (by rw [ek]; exact y.2.symm)
      subst this
      rw [b] at hb; exact nomatch hb
    | true =>
      exact br_f (fun y => by rw [kq_u (by omega) set, b] at y; exact nomatch y) (k1 ⟨k, hk, b, i, h3, by omega, z, ek.symm⟩)
theorem xx_leans {post : Int32 → Prop} {t : Nat} {set : Int32} (ht : t < 40) (h12 : mn ≤ 12) (Hr : kn_H a_row row 40) (inj : ∀ j k, j < mn → k < mn → row j = row k → j = k) (D : kx_D a_op a_number a_tokens a_timed a_inCoin a_ins a_outs a_script a_rewardScript a_holds a_held a_parent a_height oP tk ic ni nu sc rs nh hd pa he)
    (k1 : (∃ j, j < mn ∧ bt set j = true ∧ kp_nd ic ni t (row j)) → post 1) (k0 : (∀ j, j < mn → bt set j = true → ¬ kp_nd ic ni t (row j)) → post 0) : wpX_leans post (f_made, f_blocks, f_arrivals, f_top, nI mn, f_agains, f_feeNow, a_op, a_number, a_tokens, a_used, a_timed, a_stack, a_inCoin, a_inA, a_inB, a_ins, a_amount, a_script, a_outs, a_fitting, a_parent, a_height, a_work, a_holds, a_held, a_rewardScript, a_reward, a_delivered, a_arrival, a_right, a_wrong, a_chain, a_born, a_spent, a_since, a_row, a_fees, a_taker, a_again, a_before) (nI t) set :=
  nm_r (kn_m3 t) ⟨ni t + 1, xx_l4 ht h12 Hr inj D k1 k0 (ni t) (3 * t) _ rfl (Nat.le_refl _) (fun j _ _ x h1 h2 => by omega) (by omega)⟩
/-- rivals: the closing pass -/
theorem xx_ri57 {t : Nat} {K : kc_K} {h : Nat} (Hr : kn_H a_row row 40) (N : kd_N oP tk ic ni nu sc rs nh hd pa he md bk) (D : kx_D a_op a_number a_tokens a_timed a_inCoin a_ins a_outs a_script a_rewardScript a_holds a_held a_parent a_height oP tk ic ni nu sc rs nh hd pa he) (P : kp_P ic ni md K row mn) (I : kc_I he h K) :
    ∀ (m k : Nat) (set : Int32), k + m = mn → (∀ j, bt set j = true → j < mn ∧ kp_R ic ni row mn t j) → (∀ j, j < mn → kp_sh ic ni t (row j) → bt set j = true) → (∀ i j, i < k → j < mn → bt set j = true → kp_nd ic ni (row i) (row j) → bt set i = true) →
    ∃ set', kp_S ic ni row mn t set' ∧ ∀ (post : Int32 → Prop), post set' → ∀ n, m < n → wX_rivals_57 post f_made f_blocks f_arrivals f_top (nI mn) f_agains f_feeNow a_op a_number a_tokens a_used a_timed a_stack a_inCoin a_inA a_inB a_ins a_amount a_script a_outs a_fitting a_parent a_height a_work a_holds a_held a_rewardScript a_reward a_delivered a_arrival a_right a_wrong a_chain a_born a_spent a_since a_row a_fees a_taker a_again a_before n set (nI k) := by
  have m40 := kd_md N
  intro m
  induction m with
  | zero =>
    intro k set e h1 h2 h3
    refine ⟨set, kp_S_i h1 h2 (fun i j hi hj => h3 i j (by omega) hj), fun post hp n hn => ?_⟩
    obtain ⟨n, rfl⟩ : ∃ n', n = n' + 1 := ⟨n - 1, by omega⟩
    exact pk_le mn k (fun _ => hp) (fun z => by omega) rfl rfl (by have := P.1; omega) (by have := P.1; omega)
  | succ m ih =>
    intro k set e h1 h2 h3
    have p12 := P.1
    have rk := P.2.1 k (by omega)
    by_cases s0 : set = 0
    · refine ⟨set, kp_S_i h1 h2 (fun i j _ _ q => ?_), fun post hp n hn => ?_⟩
      · rw [kq_0.mp s0 j] at q; exact nomatch q
      · obtain ⟨n, rfl⟩ : ∃ n', n = n' + 1 := ⟨n - 1, by omega⟩
        exact pk_le mn k (fun z => by omega) (fun _ => br_t s0 hp)
    · by_cases ln : ∃ j, j < mn ∧ bt set j = true ∧ kp_nd ic ni (row k) (row j)
      · have ob : ∀ j, bt (set ||| ((1 : Int32) <<< (nI k &&& 31))) j = true ↔ (bt set j = true ∨ j = k) := fun j => kq_or (by omega) set
        obtain ⟨set', S, R⟩ := ih (k + 1) (set ||| ((1 : Int32) <<< (nI k &&& 31))) (by omega)
          (fun j hj => by
            rcases (ob j).mp hj with q | q
            · exact h1 j q
            · subst q
              obtain ⟨j', a1, a2, a3⟩ := ln
              exact ⟨by omega, kp_R_s (by omega) a1 (h1 j' a2).2 a3⟩)
          (fun j hj hs => (ob j).mpr (Or.inl (h2 j hj hs)))
          (fun i j hi hj hb hq => by
            refine (ob i).mpr ?_
            by_cases y : i = k
            · exact Or.inr y
            · rcases (ob j).mp hb with q | q
              · exact Or.inl (h3 i j (by omega) hj q hq)
              · have := kp_topo P I (show i < mn by omega) hj hq
                omega)
        refine ⟨set', S, fun post hp n hn => ?_⟩
        obtain ⟨n, rfl⟩ : ∃ n', n = n' + 1 := ⟨n - 1, by omega⟩
        refine pk_le mn k (fun z => by omega) (fun _ => br_f s0 (And.intro (pk_in k 12 (by omega)) ?_))
        rw [kn_at Hr k]
        exact xx_leans (by omega) p12 Hr P.2.2.1 D (fun _ => br_f kn_10 (nm_e (nm_r (nI_1 k) (R post hp n (by omega))))) (fun q => by obtain ⟨j, a1, a2, a3⟩ := ln; exact absurd a3 (q j a1 a2))
      · obtain ⟨set', S, R⟩ := ih (k + 1) set (by omega) h1 h2
          (fun i j hi hj hb hq => by
            by_cases y : i = k
            · subst y; exact absurd ⟨j, hj, hb, hq⟩ ln
            · exact h3 i j (by omega) hj hb hq)
        refine ⟨set', S, fun post hp n hn => ?_⟩
        obtain ⟨n, rfl⟩ : ∃ n', n = n' + 1 := ⟨n - 1, by omega⟩
        refine pk_le mn k (fun z => by omega) (fun _ => br_f s0 (And.intro (pk_in k 12 (by omega)) ?_))
        rw [kn_at Hr k]
        exact xx_leans (by omega) p12 Hr P.2.2.1 D (fun q => absurd q ln) (fun _ => br_t rfl (nm_r (nI_1 k) (R post hp n (by omega))))
theorem xx_ri6 {t : Nat} {K : kc_K} {h : Nat} {fees : Nat → Int32} (ht : t < md) (Hr : kn_H a_row row 40) (N : kd_N oP tk ic ni nu sc rs nh hd pa he md bk) (D : kx_D a_op a_number a_tokens a_timed a_inCoin a_ins a_outs a_script a_rewardScript a_holds a_held a_parent a_height oP tk ic ni nu sc rs nh hd pa he) (P : kp_P ic ni md K row mn) (I : kc_I he h K) (X : kp_X ic ni nu a_amount a_reward row mn fees a_taker) :
    ∀ (m i : Nat) (set : Int32), i + m = 3 * t + ni t → 3 * t ≤ i → (∀ k, bt set k = true ↔ (k < mn ∧ ∃ j, 3 * t ≤ j ∧ j < i ∧ kp_in ic ni (row k) (ic j))) →
    ∃ set', kp_S ic ni row mn t set' ∧ ∀ (post : Int32 → Prop), post set' → ∀ n, m < n → wX_rivals_6 post (nI t) f_made f_blocks f_arrivals f_top (nI mn) f_agains f_feeNow a_op a_number a_tokens a_used a_timed a_stack a_inCoin a_inA a_inB a_ins a_amount a_script a_outs a_fitting a_parent a_height a_work a_holds a_held a_rewardScript a_reward a_delivered a_arrival a_right a_wrong a_chain a_born a_spent a_since a_row a_fees a_taker a_again a_before n set (nI i) := by
  have m40 := kd_md N
  have p12 := P.1
  have d := kn_l (dx_ni D) t
  intro m
  induction m with
  | zero =>
    intro i set e h3 B
    obtain ⟨set', S, R⟩ := xx_ri57 (f_made := f_made) (f_blocks := f_blocks) (f_arrivals := f_arrivals) (f_top := f_top) (f_agains := f_agains) (f_feeNow := f_feeNow) (a_op := a_op) (a_number := a_number) (a_tokens := a_tokens) (a_used := a_used) (a_timed := a_timed) (a_stack := a_stack) (a_inCoin := a_inCoin) (a_inA := a_inA) (a_inB := a_inB) (a_ins := a_ins) (a_amount := a_amount) (a_script := a_script) (a_outs := a_outs) (a_fitting := a_fitting) (a_parent := a_parent) (a_height := a_height) (a_work := a_work) (a_holds := a_holds) (a_held := a_held) (a_rewardScript := a_rewardScript) (a_reward := a_reward) (a_delivered := a_delivered) (a_arrival := a_arrival) (a_right := a_right) (a_wrong := a_wrong) (a_chain := a_chain) (a_born := a_born) (a_spent := a_spent) (a_since := a_since) (a_row := a_row) (a_fees := a_fees) (a_taker := a_taker) (a_again := a_again) (a_before := a_before) (t := t) Hr N D P I mn 0 set (by omega)
      (fun j hj => by
        obtain ⟨a1, x, a2, a3, a4⟩ := (B j).mp hj
        exact ⟨a1, kp_R_b a1 ⟨ic x, ⟨x, a2, by omega, rfl⟩, a4⟩⟩)
      (fun j hj hs => by
        obtain ⟨c, ⟨x, a1, a2, a3⟩, a4⟩ := hs
        exact (B j).mpr ⟨hj, x, a1, by omega, by rw [a3]; exact a4⟩)
      (fun i j hi => by omega)
    refine ⟨set', S, fun post hp n hn => ?_⟩
    obtain ⟨n, rfl⟩ : ∃ n', n = n' + 1 := ⟨n - 1, by omega⟩
    exact And.intro (pk_in t 41 (by omega)) (pk_le (3 * t + ni t) i (fun _ => ⟨mn + 1, R post hp _ (by omega)⟩) (fun z => by omega) (kn_e3 (dx_ni D) t))
  | succ m ih =>
    intro i set e h3 B
    have c := kn_at (dx_ic D) i
    have cl := kn_l (dx_ic D) i
    have ecl : (nI (ic i)).toNatClampNeg = ic i := nI_clamp (by omega)
    rcases X.2 (ic i) cl with ⟨z1, z2⟩ | ⟨k0, z1, z2, z3⟩
    · obtain ⟨set', S, R⟩ := ih (i + 1) set (by omega) (by omega) (fun k => by
        rw [B k]
        constructor
        · rintro ⟨a1, x, a2, a3, a4⟩; exact ⟨a1, x, a2, by omega, a4⟩
        · rintro ⟨a1, x, a2, a3, a4⟩
          by_cases y : x = i
          · subst y; exact absurd a4 (z2 k a1)
          · exact ⟨a1, x, a2, by omega, a4⟩)
      refine ⟨set', S, fun post hp n hn => ?_⟩
      obtain ⟨n, rfl⟩ : ∃ n', n = n' + 1 := ⟨n - 1, by omega⟩
      refine And.intro (pk_in t 41 (by omega)) (pk_le (3 * t + ni t) i (fun _ => by omega) (fun z => And.intro (pk_in i 123 (by omega)) (And.intro (pk_in (ic i) 152 cl c) ?_)) (kn_e3 (dx_ni D) t))
      rw [c, ecl, z1]
      exact nm_e (br_t kn_m1lt (nm_r (nI_1 i) (R post hp n (by omega))))
    · have rl := kn_l Hr k0
      have ob : ∀ j, bt (set ||| ((1 : Int32) <<< (nI k0 &&& 31))) j = true ↔ (bt set j = true ∨ j = k0) := fun j => kq_or (by omega) set
      obtain ⟨set', S, R⟩ := ih (i + 1) (set ||| ((1 : Int32) <<< (nI k0 &&& 31))) (by omega) (by omega) (fun k => by
        rw [ob k, B k]
        constructor
        · rintro (⟨a1, x, a2, a3, a4⟩ | q)
          · exact ⟨a1, x, a2, by omega, a4⟩
          · subst q; exact ⟨z1, i, h3, by omega, z3⟩
        · rintro ⟨a1, x, a2, a3, a4⟩
          by_cases y : x = i
          · subst y; exact Or.inr (P.2.2.2.2 k k0 (ic x) a1 z1 a4 z3)
          · exact Or.inl ⟨a1, x, a2, by omega, a4⟩)
      refine ⟨set', S, fun post hp n hn => ?_⟩
      obtain ⟨n, rfl⟩ : ∃ n', n = n' + 1 := ⟨n - 1, by omega⟩
      refine And.intro (pk_in t 41 (by omega)) (pk_le (3 * t + ni t) i (fun _ => by omega) (fun z => And.intro (pk_in i 123 (by omega)) (And.intro (pk_in (ic i) 152 cl c) ?_)) (kn_e3 (dx_ni D) t))
      rw [c, ecl, z2]
      refine nm_e (br_f (nI_pos (by omega)) (xx_inPool (by omega) p12 Hr (fun k hk ek => ?_) (fun q => absurd rfl (q k0 z1))))
      have := P.2.2.1 k k0 hk z1 ek
      subst this
      exact nm_e (nm_r (nI_1 i) (R post hp n (by omega)))
theorem xx_rivals {t : Nat} {K : kc_K} {h : Nat} {fees : Nat → Int32} (ht : t < md) (Hr : kn_H a_row row 40) (N : kd_N oP tk ic ni nu sc rs nh hd pa he md bk) (D : kx_D a_op a_number a_tokens a_timed a_inCoin a_ins a_outs a_script a_rewardScript a_holds a_held a_parent a_height oP tk ic ni nu sc rs nh hd pa he) (P : kp_P ic ni md K row mn) (I : kc_I he h K) (X : kp_X ic ni nu a_amount a_reward row mn fees a_taker) :
    ∃ set', kp_S ic ni row mn t set' ∧ ∀ (post : Int32 → Prop), post set' → wpX_rivals post (f_made, f_blocks, f_arrivals, f_top, nI mn, f_agains, f_feeNow, a_op, a_number, a_tokens, a_used, a_timed, a_stack, a_inCoin, a_inA, a_inB, a_ins, a_amount, a_script, a_outs, a_fitting, a_parent, a_height, a_work, a_holds, a_held, a_rewardScript, a_reward, a_delivered, a_arrival, a_right, a_wrong, a_chain, a_born, a_spent, a_since, a_row, a_fees, a_taker, a_again, a_before) (nI t) := by
  obtain ⟨set', S, R⟩ := xx_ri6 (f_made := f_made) (f_blocks := f_blocks) (f_arrivals := f_arrivals) (f_top := f_top) (f_agains := f_agains) (f_feeNow := f_feeNow) (a_op := a_op) (a_number := a_number) (a_tokens := a_tokens) (a_used := a_used) (a_timed := a_timed) (a_stack := a_stack) (a_inCoin := a_inCoin) (a_inA := a_inA) (a_inB := a_inB) (a_ins := a_ins) (a_amount := a_amount) (a_script := a_script) (a_outs := a_outs) (a_fitting := a_fitting) (a_parent := a_parent) (a_height := a_height) (a_work := a_work) (a_holds := a_holds) (a_held := a_held) (a_rewardScript := a_rewardScript) (a_reward := a_reward) (a_delivered := a_delivered) (a_arrival := a_arrival) (a_right := a_right) (a_wrong := a_wrong) (a_chain := a_chain) (a_born := a_born) (a_spent := a_spent) (a_since := a_since) (a_row := a_row) (a_fees := a_fees) (a_taker := a_taker) (a_again := a_again) (a_before := a_before) ht Hr N D P I X (ni t) (3 * t) 0 rfl (Nat.le_refl _) (fun k => by
    rw [b_0]
    constructor
    · intro h; exact nomatch h
    · rintro ⟨a1, x, a2, a3, a4⟩; omega)
  exact ⟨set', S, fun post hp => nm_r (kn_m3 t) ⟨ni t + 1, R post hp _ (by omega)⟩⟩
end
section
variable {f_made f_blocks f_arrivals f_top f_agains f_feeNow : Int32} {a_op a_number a_tokens a_used a_timed a_stack a_inCoin a_inA a_inB a_ins a_amount a_script a_outs a_fitting a_parent a_height a_work a_holds a_held a_rewardScript a_reward a_delivered a_arrival a_right a_wrong a_chain a_born a_spent a_since a_again a_before : Nat → Int32} {oP tk ic ni nu sc rs nh hd pa he : Nat → Nat} {md bk : Nat} {mn : Nat} {row : Nat → Nat}
theorem xx_e41 {post : SX → Prop} {J : Int32 → Int32 → (Nat → Int32) → (Nat → Int32) → (Nat → Int32) → (Nat → Int32) → (Nat → Int32) → (Nat → Int32) → (Nat → Int32) → (Nat → Int32) → (Nat → Int32) → (Nat → Int32) → (Nat → Int32) → (Nat → Int32) → (Nat → Int32) → (Nat → Int32) → (Nat → Int32) → (Nat → Int32) → (Nat → Int32) → (Nat → Int32) → (Nat → Int32) → (Nat → Int32) → (Nat → Int32) → (Nat → Int32) → (Nat → Int32) → (Nat → Int32) → (Nat → Int32) → (Nat → Int32) → (Nat → Int32) → (Nat → Int32) → (Nat → Int32) → (Nat → Int32) → (Nat → Int32) → (Nat → Int32) → (Nat → Int32) → (Nat → Int32) → Prop} {t : Nat} {x1 x2 x3 : Int32} {fm : Int32} {ra fe : Nat → Int32} (ht : t < 40) (D : kx_D a_op a_number a_tokens a_timed a_inCoin a_ins a_outs a_script a_rewardScript a_holds a_held a_parent a_height oP tk ic ni nu sc rs nh hd pa he) :
    ∀ (m i : Nat) (f : Nat → Int32) (n : Nat), i + m = 3 * t + ni t → m < n → wX_expel_82 post J x1 x2 x3 1 f_made f_blocks f_arrivals f_top fm f_agains f_feeNow a_op a_number a_tokens a_used a_timed a_stack a_inCoin a_inA a_inB a_ins a_amount a_script a_outs a_fitting a_parent a_height a_work a_holds a_held a_rewardScript a_reward a_delivered a_arrival a_right a_wrong a_chain a_born a_spent a_since ra fe (kc_sg ic (fun _ => -1) m i f) a_again a_before → wX_expel_41 post J x1 x2 x3 (nI t) 1 f_made f_blocks f_arrivals f_top fm f_agains f_feeNow n (nI i) a_op a_number a_tokens a_used a_timed a_stack a_inCoin a_inA a_inB a_ins a_amount a_script a_outs a_fitting a_parent a_height a_work a_holds a_held a_rewardScript a_reward a_delivered a_arrival a_right a_wrong a_chain a_born a_spent a_since ra fe f a_again a_before := by
  have d := kn_l (dx_ni D) t
  intro m
  induction m with
  | zero =>
    intro i f n e hn hp
    obtain ⟨n, rfl⟩ : ∃ n', n = n' + 1 := ⟨n - 1, by omega⟩
    exact And.intro (pk_in t 41 (by omega)) (pk_le (3 * t + ni t) i (fun _ => hp) (fun z => by omega) (kn_e3 (dx_ni D) t))
  | succ m ih =>
    intro i f n e hn hp
    obtain ⟨n, rfl⟩ : ∃ n', n = n' + 1 := ⟨n - 1, by omega⟩
    have c := kn_at (dx_ic D) i
    have cl := kn_l (dx_ic D) i
    exact And.intro (pk_in t 41 (by omega)) (pk_le (3 * t + ni t) i (fun _ => by omega) (fun z => br_f kn_10 (And.intro (pk_in i 123 (by omega)) (And.intro (pk_in (ic i) 152 cl c) (nm_r (kn_uv (ic i) kn_vm1 c) (nm_r (nI_1 i) (ih (i + 1) _ n (by omega) (by omega) hp)))))) (kn_e3 (dx_ni D) t))
theorem xx_e4 {post : SX → Prop} {set : Int32} (h12 : mn ≤ 12) (D : kx_D a_op a_number a_tokens a_timed a_inCoin a_ins a_outs a_script a_rewardScript a_holds a_held a_parent a_height oP tk ic ni nu sc rs nh hd pa he) :
    ∀ (m k nn : Nat) (ra fe tr : Nat → Int32) (rn : Nat → Nat) (n : Nat), k + m = mn → nn ≤ k → kn_H ra rn 40 → (∀ j, k ≤ j → rn j = row j) → m < n →
    post (f_made, f_blocks, f_arrivals, f_top, nI (kp_cc set m k nn), f_agains, f_feeNow, a_op, a_number, a_tokens, a_used, a_timed, a_stack, a_inCoin, a_inA, a_inB, a_ins, a_amount, a_script, a_outs, a_fitting, a_parent, a_height, a_work, a_holds, a_held, a_rewardScript, a_reward, a_delivered, a_arrival, a_right, a_wrong, a_chain, a_born, a_spent, a_since, kp_ca set m k nn ra, kp_ca set m k nn fe, kp_ct ic ni row set m k tr, a_again, a_before) →
    wX_expel_4 post set f_made f_blocks f_arrivals f_top (nI mn) f_agains f_feeNow n (nI nn) (nI k) a_op a_number a_tokens a_used a_timed a_stack a_inCoin a_inA a_inB a_ins a_amount a_script a_outs a_fitting a_parent a_height a_work a_holds a_held a_rewardScript a_reward a_delivered a_arrival a_right a_wrong a_chain a_born a_spent a_since ra fe tr a_again a_before := by
  intro m
  induction m with
  | zero =>
    intro k nn ra fe tr rn n e hk Hr er hn hp
    obtain ⟨n, rfl⟩ : ∃ n', n = n' + 1 := ⟨n - 1, by omega⟩
    exact pk_le mn k (fun _ => hp) (fun z => by omega)
  | succ m ih =>
    intro k nn ra fe tr rn n e hk Hr er hn hp
    obtain ⟨n, rfl⟩ : ∃ n', n = n' + 1 := ⟨n - 1, by omega⟩
    have rl := kn_l Hr k
    have ek : rn k = row k := er k (Nat.le_refl _)
    refine pk_le mn k (fun z => by omega) (fun _ => And.intro (pk_in k 12 (by omega)) (nm_r (kn_at Hr k) ?_))
    have ecl : (nI k).toNatClampNeg = k := nI_clamp (by omega)
    cases b : bt set k with
    | true =>
      have e1 : kp_cc set (m + 1) k nn = kp_cc set m (k + 1) nn := if_pos b
      have e2 : kp_ca set (m + 1) k nn ra = kp_ca set m (k + 1) nn ra := if_pos b
      have e3 : kp_ca set (m + 1) k nn fe = kp_ca set m (k + 1) nn fe := if_pos b
      have e4 : kp_ct ic ni row set (m + 1) k tr = kp_ct ic ni row set m (k + 1) (kc_sg ic (fun _ => -1) (ni (rn k)) (3 * rn k) tr) := by
        show kp_ct ic ni row set m (k + 1) (if bt set k = true then kc_sg ic (fun _ => -1) (ni (row k)) (3 * row k) tr else tr) = _
        rw [if_pos b, ek]
      rw [e1, e2, e3, e4] at hp
      refine br_f (fun y => by rw [kq_u (by omega) set, b] at y; exact nomatch y) (nm_r (kn_m3 (rn k)) ⟨ni (rn k) + 1, xx_e41 rl D (ni (rn k)) (3 * rn k) tr _ rfl (by omega) ?_⟩)
      exact br_f kn_10 (nm_r (nI_1 k) (ih (k + 1) nn ra fe _ rn n (by omega) (by omega) Hr (fun j hj => er j (by omega)) (by omega) hp))
    | false =>
      have nb : ¬ bt set k = true := kq_f.mp b
      have e1 : kp_cc set (m + 1) k nn = kp_cc set m (k + 1) (nn + 1) := if_neg nb
      have e2 : kp_ca set (m + 1) k nn ra = kp_ca set m (k + 1) (nn + 1) (upd ra nn (ra k)) := if_neg nb
      have e3 : kp_ca set (m + 1) k nn fe = kp_ca set m (k + 1) (nn + 1) (upd fe nn (fe k)) := if_neg nb
      have e4 : kp_ct ic ni row set (m + 1) k tr = kp_ct ic ni row set m (k + 1) tr := by
        show kp_ct ic ni row set m (k + 1) (if bt set k = true then kc_sg ic (fun _ => -1) (ni (row k)) (3 * row k) tr else tr) = _
        rw [if_neg nb]
      rw [e1, e2, e3, e4] at hp
      have Hr1 : kn_H (upd ra nn (ra k)) (kn_u rn nn (rn k)) 40 := kn_upd Hr (kn_e Hr k) rl
      have go := ih (k + 1) (nn + 1) (upd ra nn (ra k)) (upd fe nn (fe k)) tr (kn_u rn nn (rn k)) n (by omega) (by omega) Hr1 (fun j hj => by rw [kn_un (by omega)]; exact er j (by omega)) (by omega) hp
      have g82 : wX_expel_82 post (wX_expel_4 post set f_made f_blocks f_arrivals f_top (nI mn) f_agains f_feeNow n) set (nI nn) (nI k) 0 f_made f_blocks f_arrivals f_top (nI mn) f_agains f_feeNow a_op a_number a_tokens a_used a_timed a_stack a_inCoin a_inA a_inB a_ins a_amount a_script a_outs a_fitting a_parent a_height a_work a_holds a_held a_rewardScript a_reward a_delivered a_arrival a_right a_wrong a_chain a_born a_spent a_since ra fe tr a_again a_before := by
        refine br_t rfl (And.intro (pk_in k 12 (by omega)) (And.intro (pk_in nn 12 (by omega)) (nm_r (e' := upd fe nn (fe k)) (by rw [ecl, kn_ux nn]) (nm_r (nI_1 nn) (And.intro (pk_in k 12 (by omega)) (And.intro (pk_in nn 12 (by omega)) (nm_r (e' := upd ra nn (ra k)) ?_ (nm_r (nI_1 k) go))))))))
        rw [ecl, kn_ux nn, kn_e Hr k, kn_vb (rn k)]
      refine br_t ((kq_u (by omega) set).mpr b) (nm_r (kn_m3 (rn k)) ⟨1, And.intro (pk_in (rn k) 41 (by omega)) ?_⟩)
      have d := kn_l (dx_ni D) (rn k)
      exact pk_le (3 * rn k + ni (rn k)) (3 * rn k) (fun _ => g82) (fun _ => br_t rfl g82) (kn_e3 (dx_ni D) (rn k))
theorem xx_expel {post : SX → Prop} {set : Int32} {ra fe tr : Nat → Int32} (h12 : mn ≤ 12) (D : kx_D a_op a_number a_tokens a_timed a_inCoin a_ins a_outs a_script a_rewardScript a_holds a_held a_parent a_height oP tk ic ni nu sc rs nh hd pa he) (Hr : kn_H ra row 40)
    (hp : post (f_made, f_blocks, f_arrivals, f_top, nI (kp_cc set mn 0 0), f_agains, f_feeNow, a_op, a_number, a_tokens, a_used, a_timed, a_stack, a_inCoin, a_inA, a_inB, a_ins, a_amount, a_script, a_outs, a_fitting, a_parent, a_height, a_work, a_holds, a_held, a_rewardScript, a_reward, a_delivered, a_arrival, a_right, a_wrong, a_chain, a_born, a_spent, a_since, kp_ca set mn 0 0 ra, kp_ca set mn 0 0 fe, kp_ct ic ni row set mn 0 tr, a_again, a_before)) : wpX_expel post (f_made, f_blocks, f_arrivals, f_top, nI mn, f_agains, f_feeNow, a_op, a_number, a_tokens, a_used, a_timed, a_stack, a_inCoin, a_inA, a_inB, a_ins, a_amount, a_script, a_outs, a_fitting, a_parent, a_height, a_work, a_holds, a_held, a_rewardScript, a_reward, a_delivered, a_arrival, a_right, a_wrong, a_chain, a_born, a_spent, a_since, ra, fe, tr, a_again, a_before) set :=
  ⟨mn + 1, xx_e4 h12 D mn 0 0 ra fe tr row _ (by omega) (by omega) Hr (fun _ _ => rfl) (by omega) hp⟩
theorem xx_en195 {post : Int32 → SX → Prop} {t : Nat} {fm : Int32} {ra fe : Nat → Int32} (ht : t < 40) (D : kx_D a_op a_number a_tokens a_timed a_inCoin a_ins a_outs a_script a_rewardScript a_holds a_held a_parent a_height oP tk ic ni nu sc rs nh hd pa he) :
    ∀ (m i : Nat) (f : Nat → Int32) (n : Nat), i + m = 3 * t + ni t → m < n → post fm (f_made, f_blocks, f_arrivals, f_top, fm, f_agains, f_feeNow, a_op, a_number, a_tokens, a_used, a_timed, a_stack, a_inCoin, a_inA, a_inB, a_ins, a_amount, a_script, a_outs, a_fitting, a_parent, a_height, a_work, a_holds, a_held, a_rewardScript, a_reward, a_delivered, a_arrival, a_right, a_wrong, a_chain, a_born, a_spent, a_since, ra, fe, kc_sg ic (fun _ => nI t) m i f, a_again, a_before) → wX_enter_195 post (nI t) f_made f_blocks f_arrivals f_top fm f_agains f_feeNow n (nI i) a_op a_number a_tokens a_used a_timed a_stack a_inCoin a_inA a_inB a_ins a_amount a_script a_outs a_fitting a_parent a_height a_work a_holds a_held a_rewardScript a_reward a_delivered a_arrival a_right a_wrong a_chain a_born a_spent a_since ra fe f a_again a_before := by
  have d := kn_l (dx_ni D) t
  intro m
  induction m with
  | zero =>
    intro i f n e hn hp
    obtain ⟨n, rfl⟩ : ∃ n', n = n' + 1 := ⟨n - 1, by omega⟩
    exact And.intro (pk_in t 41 (by omega)) (pk_le (3 * t + ni t) i (fun _ => hp) (fun z => by omega) (kn_e3 (dx_ni D) t))
  | succ m ih =>
    intro i f n e hn hp
    obtain ⟨n, rfl⟩ : ∃ n', n = n' + 1 := ⟨n - 1, by omega⟩
    have c := kn_at (dx_ic D) i
    have cl := kn_l (dx_ic D) i
    exact And.intro (pk_in t 41 (by omega)) (pk_le (3 * t + ni t) i (fun _ => by omega) (fun z => And.intro (pk_in i 123 (by omega)) (And.intro (pk_in (ic i) 152 cl c) (nm_r (kn_uv (ic i) (kn_vb2 t) c) (nm_r (nI_1 i) (ih (i + 1) _ n (by omega) (by omega) hp))))) (kn_e3 (dx_ni D) t))
theorem xx_en149 {post : Int32 → SX → Prop} {t : Nat} {own : Int32} {ra fe tr : Nat → Int32} (ht : t < 40) (h12 : mn ≤ 12) (D : kx_D a_op a_number a_tokens a_timed a_inCoin a_ins a_outs a_script a_rewardScript a_holds a_held a_parent a_height oP tk ic ni nu sc rs nh hd pa he)
    (k5 : mn = 12 → post (-5) (f_made, f_blocks, f_arrivals, f_top, nI mn, f_agains, f_feeNow, a_op, a_number, a_tokens, a_used, a_timed, a_stack, a_inCoin, a_inA, a_inB, a_ins, a_amount, a_script, a_outs, a_fitting, a_parent, a_height, a_work, a_holds, a_held, a_rewardScript, a_reward, a_delivered, a_arrival, a_right, a_wrong, a_chain, a_born, a_spent, a_since, ra, fe, tr, a_again, a_before))
    (k1 : mn < 12 → post (nI (mn + 1)) (f_made, f_blocks, f_arrivals, f_top, nI (mn + 1), f_agains, f_feeNow, a_op, a_number, a_tokens, a_used, a_timed, a_stack, a_inCoin, a_inA, a_inB, a_ins, a_amount, a_script, a_outs, a_fitting, a_parent, a_height, a_work, a_holds, a_held, a_rewardScript, a_reward, a_delivered, a_arrival, a_right, a_wrong, a_chain, a_born, a_spent, a_since, upd ra mn (nI t), upd fe mn own, kc_sg ic (fun _ => nI t) (ni t) (3 * t) tr, a_again, a_before)) : wX_enter_149 post (nI t) own f_made f_blocks f_arrivals f_top (nI mn) f_agains f_feeNow a_op a_number a_tokens a_used a_timed a_stack a_inCoin a_inA a_inB a_ins a_amount a_script a_outs a_fitting a_parent a_height a_work a_holds a_held a_rewardScript a_reward a_delivered a_arrival a_right a_wrong a_chain a_born a_spent a_since ra fe tr a_again a_before := by
  unfold wX_enter_149
  exact pk_eq mn 12 (fun z => k5 z) (fun z => And.intro (pk_in mn 12 (by omega)) (nm_r (kn_uv mn (kn_vb2 t)) (nm_r (nI_1 mn) (And.intro (pk_in mn 12 (by omega)) (nm_r (kn_ux mn) (nm_r (kn_m3 t) ⟨ni t + 1, xx_en195 ht D (ni t) (3 * t) tr _ rfl (by omega) (k1 (by omega))⟩))))))
/-- the fees of those that are hit, then the answer -/
theorem xx_en75 {post : Int32 → SX → Prop} {t : Nat} {own rep set : Int32} {ra fe tr : Nat → Int32} (ht : t < 40) (h12 : mn ≤ 12) (D : kx_D a_op a_number a_tokens a_timed a_inCoin a_ins a_outs a_script a_rewardScript a_holds a_held a_parent a_height oP tk ic ni nu sc rs nh hd pa he) (Hr : kn_H ra row 40) (inj : ∀ j k, j < mn → k < mn → row j = row k → j = k)
    (k3 : (∃ j, j < mn ∧ bt set j = true ∧ kp_nd ic ni t (row j)) → post (-3) (f_made, f_blocks, f_arrivals, f_top, nI mn, f_agains, f_feeNow, a_op, a_number, a_tokens, a_used, a_timed, a_stack, a_inCoin, a_inA, a_inB, a_ins, a_amount, a_script, a_outs, a_fitting, a_parent, a_height, a_work, a_holds, a_held, a_rewardScript, a_reward, a_delivered, a_arrival, a_right, a_wrong, a_chain, a_born, a_spent, a_since, ra, fe, tr, a_again, a_before))
    (k4 : (∀ j, j < mn → bt set j = true → ¬ kp_nd ic ni t (row j)) → (rep = 0 ∨ ¬ kp_fs set fe mn 0 0 < own) → post (-4) (f_made, f_blocks, f_arrivals, f_top, nI mn, f_agains, f_feeNow, a_op, a_number, a_tokens, a_used, a_timed, a_stack, a_inCoin, a_inA, a_inB, a_ins, a_amount, a_script, a_outs, a_fitting, a_parent, a_height, a_work, a_holds, a_held, a_rewardScript, a_reward, a_delivered, a_arrival, a_right, a_wrong, a_chain, a_born, a_spent, a_since, ra, fe, tr, a_again, a_before))
    (k1 : (∀ j, j < mn → bt set j = true → ¬ kp_nd ic ni t (row j)) → ¬ rep = 0 → kp_fs set fe mn 0 0 < own → wX_enter_149 post (nI t) own f_made f_blocks f_arrivals f_top (nI (kp_cc set mn 0 0)) f_agains f_feeNow a_op a_number a_tokens a_used a_timed a_stack a_inCoin a_inA a_inB a_ins a_amount a_script a_outs a_fitting a_parent a_height a_work a_holds a_held a_rewardScript a_reward a_delivered a_arrival a_right a_wrong a_chain a_born a_spent a_since (kp_ca set mn 0 0 ra) (kp_ca set mn 0 0 fe) (kp_ct ic ni row set mn 0 tr) a_again a_before) :
    ∀ (m k : Nat) (a : Int32) (n : Nat), k + m = mn → kp_fs set fe m k a = kp_fs set fe mn 0 0 → m < n → wX_enter_75 post (nI t) rep own set f_made f_blocks f_arrivals f_top (nI mn) f_agains f_feeNow a_op a_number a_tokens a_used a_timed a_stack a_inCoin a_inA a_inB a_ins a_amount a_script a_outs a_fitting a_parent a_height a_work a_holds a_held a_rewardScript a_reward a_delivered a_arrival a_right a_wrong a_chain a_born a_spent a_since ra fe tr a_again a_before n a (nI k) := by
  intro m
  induction m with
  | zero =>
    intro k a n e ea hn
    obtain ⟨n, rfl⟩ : ∃ n', n = n' + 1 := ⟨n - 1, by omega⟩
    have ea : a = kp_fs set fe mn 0 0 := ea
    refine pk_le mn k (fun _ => ?_) (fun z => by omega)
    refine xx_leans ht h12 Hr inj D (fun q => br_f kn_10 (k3 q)) (fun q => br_t rfl (br_c (fun z => k4 q (Or.inl z)) (fun z => ?_)))
    rw [ea]
    exact br_c (fun y => xx_expel h12 D Hr (k1 q z y)) (fun y => k4 q (Or.inr y))
  | succ m ih =>
    intro k a n e ea hn
    obtain ⟨n, rfl⟩ : ∃ n', n = n' + 1 := ⟨n - 1, by omega⟩
    have ea : kp_fs set fe m (k + 1) (if bt set k = true then a + fe k else a) = kp_fs set fe mn 0 0 := ea
    refine pk_le mn k (fun z => by omega) (fun _ => ?_)
    cases b : bt set k with
    | false =>
      rw [if_neg (kq_f.mp b)] at ea
      exact br_t ((kq_u (by omega) set).mpr b) (nm_r (nI_1 k) (ih (k + 1) a n (by omega) ea (by omega)))
    | true =>
      rw [if_pos b] at ea
      exact br_f (fun y => by rw [kq_u (by omega) set, b] at y; exact nomatch y) (And.intro (pk_in k 12 (by omega)) (nm_r (e' := a + fe k) (by rw [nI_clamp (by omega)]) (nm_r (nI_1 k) (ih (k + 1) _ n (by omega) ea (by omega)))))
end
end
section
/-! ===== X: suits, enter ===== -/
def kp_okS (ic ni nu : Nat → Nat) (am : Nat → Int32) (fit : Nat → Int32 → Int32 → Bool) (row : Nat → Nat) (mn t h : Nat) (K : kc_K) (w : Nat → Int32) : Prop :=
  (∀ i, 3 * t ≤ i → i < 3 * t + ni t → kp_ok1 ic fit row mn h K.1 K.2.1 i) ∧ 0 ≤ kc_fee ic ni nu am t w
theorem kp_z {α : Type} {ic ni row : Nat → Nat} : ∀ (m k : Nat) (g : Nat → α) (f : Nat → Int32), kp_ca 0 m k k g = g ∧ kp_cc 0 m k k = k + m ∧ kp_ct ic ni row 0 m k f = f := by
  intro m
  induction m with
  | zero => intro k g f; exact ⟨rfl, rfl, rfl⟩
  | succ m ih =>
    intro k g f
    have b : ¬ bt 0 k = true := kq_f.mp (b_0 k)
    have e1 : kp_ca 0 (m + 1) k k g = kp_ca 0 m (k + 1) (k + 1) (fun j => if j = k then g k else g j) := if_neg b
    have e2 : kp_cc 0 (m + 1) k k = kp_cc 0 m (k + 1) (k + 1) := if_neg b
    have e3 : kp_ct ic ni row 0 (m + 1) k f = kp_ct ic ni row 0 m (k + 1) (if bt 0 k = true then kc_sg ic (fun _ => -1) (ni (row k)) (3 * row k) f else f) := rfl
    have eg : (fun j => if j = k then g k else g j) = g := by
      funext j
      by_cases q : j = k
      · subst q; rw [if_pos rfl]
      · rw [if_neg q]
    rw [e1, e2, e3, eg, if_neg b]
    obtain ⟨i1, i2, i3⟩ := ih (k + 1) g f
    exact ⟨i1, by rw [i2]; omega, i3⟩
section
variable {f_made f_blocks f_arrivals f_top f_many f_agains : Int32} {a_op a_number a_tokens a_used a_timed a_inCoin a_inA a_inB a_ins a_amount a_script a_outs a_parent a_height a_work a_holds a_held a_rewardScript a_reward a_delivered a_arrival a_right a_wrong a_chain a_born a_spent a_since a_row a_fees a_taker a_again a_before : Nat → Int32} {oP tk ic ni nu sc rs nh hd pa he : Nat → Nat} {md bk : Nat}
theorem xx_su136 {post : Int32 → SX → Prop} {t : Nat} {st fi : Nat → Int32} (ht : t < 40) (D : kx_D a_op a_number a_tokens a_timed a_inCoin a_ins a_outs a_script a_rewardScript a_holds a_held a_parent a_height oP tk ic ni nu sc rs nh hd pa he) : ∀ (m i : Nat) (fe : Int32) (n : Nat), i + m = 3 * t + nu t → m < n →
    (0 ≤ kc_sub a_amount m i fe → post 1 (f_made, f_blocks, f_arrivals, f_top, f_many, f_agains, kc_sub a_amount m i fe, a_op, a_number, a_tokens, a_used, a_timed, st, a_inCoin, a_inA, a_inB, a_ins, a_amount, a_script, a_outs, fi, a_parent, a_height, a_work, a_holds, a_held, a_rewardScript, a_reward, a_delivered, a_arrival, a_right, a_wrong, a_chain, a_born, a_spent, a_since, a_row, a_fees, a_taker, a_again, a_before)) →
    (¬ 0 ≤ kc_sub a_amount m i fe → post 0 (f_made, f_blocks, f_arrivals, f_top, f_many, f_agains, kc_sub a_amount m i fe, a_op, a_number, a_tokens, a_used, a_timed, st, a_inCoin, a_inA, a_inB, a_ins, a_amount, a_script, a_outs, fi, a_parent, a_height, a_work, a_holds, a_held, a_rewardScript, a_reward, a_delivered, a_arrival, a_right, a_wrong, a_chain, a_born, a_spent, a_since, a_row, a_fees, a_taker, a_again, a_before)) → wX_suits_136 post (nI t) f_made f_blocks f_arrivals f_top f_many f_agains a_op a_number a_tokens a_used a_timed st a_inCoin a_inA a_inB a_ins a_amount a_script a_outs fi a_parent a_height a_work a_holds a_held a_rewardScript a_reward a_delivered a_arrival a_right a_wrong a_chain a_born a_spent a_since a_row a_fees a_taker a_again a_before n (nI i) fe := by
  have d := kn_l (dx_nu D) t
  intro m
  induction m with
  | zero =>
    intro i fe n e hn h1 h0
    obtain ⟨n, rfl⟩ : ∃ n', n = n' + 1 := ⟨n - 1, by omega⟩
    exact And.intro (pk_in t 41 (by omega)) (pk_le (3 * t + nu t) i (fun _ => br_c (fun z => h0 (Int32.not_le.mpr z)) (fun z => h1 (Int32.not_lt.mp z))) (fun z => by omega) (kn_e3 (dx_nu D) t))
  | succ m ih =>
    intro i fe n e hn h1 h0
    obtain ⟨n, rfl⟩ : ∃ n', n = n' + 1 := ⟨n - 1, by omega⟩
    refine And.intro (pk_in t 41 (by omega)) (pk_le (3 * t + nu t) i (fun _ => by omega) (fun z => And.intro (pk_in i 123 (by omega)) (nm_r (e' := fe - a_amount i) (by rw [nI_clamp (by omega)]) (nm_r (nI_1 i) (ih (i + 1) _ n (by omega) (by omega) h1 h0)))) (kn_e3 (dx_nu D) t))
end
section
variable {f_made f_blocks f_arrivals f_top f_agains : Int32} {a_op a_number a_tokens a_used a_timed a_inCoin a_inA a_inB a_ins a_amount a_script a_outs a_parent a_height a_work a_holds a_held a_rewardScript a_reward a_delivered a_arrival a_right a_wrong a_chain a_row a_fees a_taker a_again a_before : Nat → Int32} {oP tk ic ni nu sc rs nh hd pa he : Nat → Nat} {md bk : Nat} {K : kc_K} {mn : Nat} {row : Nat → Nat}
theorem xx_su77 {t h i : Nat} {g fe : Int32} {st fi : Nat → Int32} (hm : t < md) (hh : h < 100) (N : kd_N oP tk ic ni nu sc rs nh hd pa he md bk) (D : kx_D a_op a_number a_tokens a_timed a_inCoin a_ins a_outs a_script a_rewardScript a_holds a_held a_parent a_height oP tk ic ni nu sc rs nh hd pa he) (h1 : 3 * t ≤ i) (h2 : i < 3 * t + ni t) (hg : g = -1 ∨ ∃ q, q ≤ h ∧ g = nI q) (C : kf_C md ni a_timed (fun i => kx_s sc rs (ic i)) (kf_fit oP a_number tk ic a_inA a_inB sc rs) fi) :
    ∃ st' fi', kf_C md ni a_timed (fun i => kx_s sc rs (ic i)) (kf_fit oP a_number tk ic a_inA a_inB sc rs) fi' ∧ ∀ (post : Int32 → SX → Prop) (J : Int32 → Int32 → Int32 → Int32 → Int32 → Int32 → Int32 → Int32 → (Nat → Int32) → (Nat → Int32) → (Nat → Int32) → (Nat → Int32) → (Nat → Int32) → (Nat → Int32) → (Nat → Int32) → (Nat → Int32) → (Nat → Int32) → (Nat → Int32) → (Nat → Int32) → (Nat → Int32) → (Nat → Int32) → (Nat → Int32) → (Nat → Int32) → (Nat → Int32) → (Nat → Int32) → (Nat → Int32) → (Nat → Int32) → (Nat → Int32) → (Nat → Int32) → (Nat → Int32) → (Nat → Int32) → (Nat → Int32) → (Nat → Int32) → (Nat → Int32) → (Nat → Int32) → (Nat → Int32) → (Nat → Int32) → (Nat → Int32) → (Nat → Int32) → (Nat → Int32) → (Nat → Int32) → (Nat → Int32) → Prop),
      (¬ (¬ g < 0 ∧ K.2.1 (ic i) = 0 ∧ (ic i < 120 ∨ ¬ nI h - 2 < g)) → post 0 (f_made, f_blocks, f_arrivals, f_top, nI mn, f_agains, fe, a_op, a_number, a_tokens, a_used, a_timed, st, a_inCoin, a_inA, a_inB, a_ins, a_amount, a_script, a_outs, fi, a_parent, a_height, a_work, a_holds, a_held, a_rewardScript, a_reward, a_delivered, a_arrival, a_right, a_wrong, a_chain, K.1, K.2.1, K.2.2.1, a_row, a_fees, a_taker, a_again, a_before)) →
      (¬ g < 0 ∧ K.2.1 (ic i) = 0 ∧ (ic i < 120 ∨ ¬ nI h - 2 < g) → (kf_fit oP a_number tk ic a_inA a_inB sc rs) i g (nI h) = false → post 0 (f_made, f_blocks, f_arrivals, f_top, nI mn, f_agains, fe, a_op, a_number, a_tokens, a_used, a_timed, st', a_inCoin, a_inA, a_inB, a_ins, a_amount, a_script, a_outs, fi', a_parent, a_height, a_work, a_holds, a_held, a_rewardScript, a_reward, a_delivered, a_arrival, a_right, a_wrong, a_chain, K.1, K.2.1, K.2.2.1, a_row, a_fees, a_taker, a_again, a_before)) →
      (¬ g < 0 ∧ K.2.1 (ic i) = 0 ∧ (ic i < 120 ∨ ¬ nI h - 2 < g) → (kf_fit oP a_number tk ic a_inA a_inB sc rs) i g (nI h) = true → J (nI (i + 1)) f_made f_blocks f_arrivals f_top (nI mn) f_agains (fe + kc_av a_amount a_reward (ic i)) a_op a_number a_tokens a_used a_timed st' a_inCoin a_inA a_inB a_ins a_amount a_script a_outs fi' a_parent a_height a_work a_holds a_held a_rewardScript a_reward a_delivered a_arrival a_right a_wrong a_chain K.1 K.2.1 K.2.2.1 a_row a_fees a_taker a_again a_before) →
      wX_suits_77 post J (nI t) (nI h) (nI i) (nI (ic i)) g f_made f_blocks f_arrivals f_top (nI mn) f_agains fe a_op a_number a_tokens a_used a_timed st a_inCoin a_inA a_inB a_ins a_amount a_script a_outs fi a_parent a_height a_work a_holds a_held a_rewardScript a_reward a_delivered a_arrival a_right a_wrong a_chain K.1 K.2.1 K.2.2.1 a_row a_fees a_taker a_again a_before := by
  have m40 := kd_md N
  have d := kn_l (dx_ni D) t
  have cl := kn_l (dx_ic D) i
  have ecl : (nI (ic i)).toNatClampNeg = ic i := nI_clamp (by omega)
  obtain ⟨st1, fi1, C1, O1⟩ := xx_opens (f_made := f_made) (f_blocks := f_blocks) (f_arrivals := f_arrivals) (f_top := f_top) (f_many := nI mn) (f_agains := f_agains) (f_feeNow := fe) (a_op := a_op) (a_number := a_number) (a_tokens := a_tokens) (a_used := a_used) (a_timed := a_timed) (a_stack := st) (a_inCoin := a_inCoin) (a_inA := a_inA) (a_inB := a_inB) (a_ins := a_ins) (a_amount := a_amount) (a_script := a_script) (a_outs := a_outs) (a_fitting := fi) (a_parent := a_parent) (a_height := a_height) (a_work := a_work) (a_holds := a_holds) (a_held := a_held) (a_rewardScript := a_rewardScript) (a_reward := a_reward) (a_delivered := a_delivered) (a_arrival := a_arrival) (a_right := a_right) (a_wrong := a_wrong) (a_chain := a_chain) (a_born := K.1) (a_spent := K.2.1) (a_since := K.2.2.1) (a_row := a_row) (a_fees := a_fees) (a_taker := a_taker) (a_again := a_again) (a_before := a_before) (g := g) (h := nI h) (show i < 120 by omega) ⟨t, hm, h1, h2⟩ D C
  refine ⟨st1, fi1, C1, fun post J k0 k1 k2 => ?_⟩
  unfold wX_suits_77
  refine xx_ripe cl (by omega) hg (fun g0 gr => br_f kn_10 (And.intro (pk_in (ic i) 152 cl) ?_)) (fun z => br_t rfl (k0 (fun q => z ⟨q.1, q.2.2⟩)))
  rw [ecl]
  refine br_c (fun s0 => O1 _ ?_) (fun s0 => k0 (fun q => s0 q.2.1))
  cases r : (kf_fit oP a_number tk ic a_inA a_inB sc rs) i g (nI h) with
  | false => exact br_t rfl (k1 ⟨g0, s0, gr⟩ r)
  | true => exact br_f kn_10 (xx_amountOf cl (nm_e (nm_r (nI_1 i) (k2 ⟨g0, s0, gr⟩ r))))
theorem xx_su16 {t h : Nat} (hm : t < md) (hh : h < 100) (N : kd_N oP tk ic ni nu sc rs nh hd pa he md bk) (D : kx_D a_op a_number a_tokens a_timed a_inCoin a_ins a_outs a_script a_rewardScript a_holds a_held a_parent a_height oP tk ic ni nu sc rs nh hd pa he) (I : kc_I he h K) (Hr : kn_H a_row row 40) (P : kp_P ic ni md K row mn) :
    ∀ (m i : Nat) (fe : Int32) (st fi : Nat → Int32), i + m = 3 * t + ni t → 3 * t ≤ i → kf_C md ni a_timed (fun i => kx_s sc rs (ic i)) (kf_fit oP a_number tk ic a_inA a_inB sc rs) fi → ∃ fe' st' fi', kf_C md ni a_timed (fun i => kx_s sc rs (ic i)) (kf_fit oP a_number tk ic a_inA a_inB sc rs) fi' ∧
    ((∀ j, i ≤ j → j < i + m → kp_ok1 ic (kf_fit oP a_number tk ic a_inA a_inB sc rs) row mn h K.1 K.2.1 j) → fe' = kc_sum (fun j => kc_av a_amount a_reward (ic j)) m i fe ∧ ∀ post : Int32 → SX → Prop, (∃ n, wX_suits_136 post (nI t) f_made f_blocks f_arrivals f_top (nI mn) f_agains a_op a_number a_tokens a_used a_timed st' a_inCoin a_inA a_inB a_ins a_amount a_script a_outs fi' a_parent a_height a_work a_holds a_held a_rewardScript a_reward a_delivered a_arrival a_right a_wrong a_chain K.1 K.2.1 K.2.2.1 a_row a_fees a_taker a_again a_before n (nI (3 * t)) fe') → ∀ n, m < n → wX_suits_16 post (nI t) (nI h) n (nI i) f_made f_blocks f_arrivals f_top (nI mn) f_agains fe a_op a_number a_tokens a_used a_timed st a_inCoin a_inA a_inB a_ins a_amount a_script a_outs fi a_parent a_height a_work a_holds a_held a_rewardScript a_reward a_delivered a_arrival a_right a_wrong a_chain K.1 K.2.1 K.2.2.1 a_row a_fees a_taker a_again a_before) ∧
    (¬ (∀ j, i ≤ j → j < i + m → kp_ok1 ic (kf_fit oP a_number tk ic a_inA a_inB sc rs) row mn h K.1 K.2.1 j) → ∀ post : Int32 → SX → Prop, post 0 (f_made, f_blocks, f_arrivals, f_top, nI mn, f_agains, fe', a_op, a_number, a_tokens, a_used, a_timed, st', a_inCoin, a_inA, a_inB, a_ins, a_amount, a_script, a_outs, fi', a_parent, a_height, a_work, a_holds, a_held, a_rewardScript, a_reward, a_delivered, a_arrival, a_right, a_wrong, a_chain, K.1, K.2.1, K.2.2.1, a_row, a_fees, a_taker, a_again, a_before) → ∀ n, m < n → wX_suits_16 post (nI t) (nI h) n (nI i) f_made f_blocks f_arrivals f_top (nI mn) f_agains fe a_op a_number a_tokens a_used a_timed st a_inCoin a_inA a_inB a_ins a_amount a_script a_outs fi a_parent a_height a_work a_holds a_held a_rewardScript a_reward a_delivered a_arrival a_right a_wrong a_chain K.1 K.2.1 K.2.2.1 a_row a_fees a_taker a_again a_before) := by
  have d := kn_l (dx_ni D) t
  have m40 := kd_md N
  intro m
  induction m with
  | zero =>
    intro i fe st fi e h3 C
    refine ⟨fe, st, fi, C, fun _ => ⟨rfl, fun post W n hn => ?_⟩, fun z => absurd (fun j h1 h2 => by omega) z⟩
    obtain ⟨n, rfl⟩ : ∃ n', n = n' + 1 := ⟨n - 1, by omega⟩
    exact And.intro (pk_in t 41 (by omega)) (pk_le (3 * t + ni t) i (fun _ => nm_r (kn_m3 t) W) (fun z => by omega) (kn_e3 (dx_ni D) t))
  | succ m ih =>
    intro i fe st fi e h3 C
    have c := kn_at (dx_ic D) i
    have cl := kn_l (dx_ic D) i
    have ecl : (nI (ic i)).toNatClampNeg = ic i := nI_clamp (by omega)
    have fn := kc_fneg I (by omega) cl
    -- the height that counts
    have key : ∃ g, (g = -1 ∨ ∃ q, q ≤ h ∧ g = nI q) ∧ ((kp_ok1 ic (kf_fit oP a_number tk ic a_inA a_inB sc rs) row mn h K.1 K.2.1 i) ↔ ((¬ g < 0 ∧ K.2.1 (ic i) = 0 ∧ (ic i < 120 ∨ ¬ nI h - 2 < g)) ∧ (kf_fit oP a_number tk ic a_inA a_inB sc rs) i g (nI h) = true)) ∧
        ∀ (post : Int32 → SX → Prop) (n : Nat), wX_suits_77 post (wX_suits_16 post (nI t) (nI h) n) (nI t) (nI h) (nI i) (nI (ic i)) g f_made f_blocks f_arrivals f_top (nI mn) f_agains fe a_op a_number a_tokens a_used a_timed st a_inCoin a_inA a_inB a_ins a_amount a_script a_outs fi a_parent a_height a_work a_holds a_held a_rewardScript a_reward a_delivered a_arrival a_right a_wrong a_chain K.1 K.2.1 K.2.2.1 a_row a_fees a_taker a_again a_before → wX_suits_16 post (nI t) (nI h) (n + 1) (nI i) f_made f_blocks f_arrivals f_top (nI mn) f_agains fe a_op a_number a_tokens a_used a_timed st a_inCoin a_inA a_inB a_ins a_amount a_script a_outs fi a_parent a_height a_work a_holds a_held a_rewardScript a_reward a_delivered a_arrival a_right a_wrong a_chain K.1 K.2.1 K.2.2.1 a_row a_fees a_taker a_again a_before := by
      by_cases pl : kp_pl row mn (ic i)
      · have f1 := kp_pl_n P I pl
        refine ⟨nI h, Or.inr ⟨h, Nat.le_refl _, rfl⟩, ⟨fun q => ?_, fun q => Or.inl ⟨pl, q.2⟩⟩, fun post n W => ?_⟩
        · rcases q with q | q
          · exact ⟨⟨nI_pos (by omega), I.2.2.1 _ cl f1, Or.inl pl.1⟩, q.2⟩
          · exact absurd pl q.1
        · refine And.intro (pk_in t 41 (by omega)) (pk_le (3 * t + ni t) i (fun _ => by omega) (fun z => And.intro (pk_in i 123 (by omega)) (nm_r c (And.intro (pk_in (ic i) 152 cl) ?_))) (kn_e3 (dx_ni D) t))
          rw [ecl, f1]
          refine nm_e (br_f kn_m1le (pk_le 120 (ic i) (fun z => by have := pl.1; omega) (fun z => And.intro (by decide) ?_)))
          rw [kn_d3 (by omega)]
          exact xx_inPool (by omega) P.1 Hr (fun k hk ek => br_f (nI_pos (by have := P.1; omega)) W) (fun q => by obtain ⟨_, k, h1, h2⟩ := pl; exact absurd h2 (q k h1))
      · refine ⟨K.1 (ic i), I.1 _ cl, ⟨fun q => ?_, fun q => Or.inr ⟨pl, q.1.1, q.1.2.1, q.1.2.2, q.2⟩⟩, fun post n W => ?_⟩
        · rcases q with q | q
          · exact absurd q.1 pl
          · exact ⟨⟨q.2.1, q.2.2.1, q.2.2.2.1⟩, q.2.2.2.2⟩
        · refine And.intro (pk_in t 41 (by omega)) (pk_le (3 * t + ni t) i (fun _ => by omega) (fun z => And.intro (pk_in i 123 (by omega)) (nm_r c (And.intro (pk_in (ic i) 152 cl) ?_))) (kn_e3 (dx_ni D) t))
          rw [ecl]
          refine nm_e (br_c (fun _ => W) (fun _ => pk_le 120 (ic i) (fun _ => W) (fun z => And.intro (by decide) ?_)))
          rw [kn_d3 (by omega)]
          exact xx_inPool (by omega) P.1 Hr (fun k hk ek => absurd ⟨z, k, hk, ek⟩ pl) (fun _ => br_t kn_m1lt W)
    obtain ⟨g, hg, go, gW⟩ := key
    obtain ⟨st1, fi1, C1, S7⟩ := xx_su77 (f_made := f_made) (f_blocks := f_blocks) (f_arrivals := f_arrivals) (f_top := f_top) (f_agains := f_agains) (a_op := a_op) (a_number := a_number) (a_tokens := a_tokens) (a_used := a_used) (a_timed := a_timed) (a_inCoin := a_inCoin) (a_inA := a_inA) (a_inB := a_inB) (a_ins := a_ins) (a_amount := a_amount) (a_script := a_script) (a_outs := a_outs) (a_parent := a_parent) (a_height := a_height) (a_work := a_work) (a_holds := a_holds) (a_held := a_held) (a_rewardScript := a_rewardScript) (a_reward := a_reward) (a_delivered := a_delivered) (a_arrival := a_arrival) (a_right := a_right) (a_wrong := a_wrong) (a_chain := a_chain) (a_row := a_row) (a_fees := a_fees) (a_taker := a_taker) (a_again := a_again) (a_before := a_before) (K := K) (mn := mn) (fe := fe) (st := st) hm hh N D h3 (show i < 3 * t + ni t by omega) hg C
    obtain ⟨fe', st', fi', C', R1, R0⟩ := ih (i + 1) (fe + kc_av a_amount a_reward (ic i)) st1 fi1 (by omega) (by omega) C1
    by_cases p : ¬ g < 0 ∧ K.2.1 (ic i) = 0 ∧ (ic i < 120 ∨ ¬ nI h - 2 < g)
    · cases r : (kf_fit oP a_number tk ic a_inA a_inB sc rs) i g (nI h) with
      | false =>
        have nok : ¬ kp_ok1 ic (kf_fit oP a_number tk ic a_inA a_inB sc rs) row mn h K.1 K.2.1 i := fun q => by have := (go.mp q).2; rw [r] at this; exact nomatch this
        refine ⟨fe, st1, fi1, C1, fun z => absurd (z i (Nat.le_refl _) (by omega)) nok, fun _ post hp n hn => ?_⟩
        obtain ⟨n, rfl⟩ : ∃ n', n = n' + 1 := ⟨n - 1, by omega⟩
        exact gW post n (S7 post _ (fun q => absurd p q) (fun _ _ => hp) (fun _ q => by rw [r] at q; exact nomatch q))
      | true =>
        have ok := go.mpr ⟨p, r⟩
        have up : (∀ j, i ≤ j → j < i + (m + 1) → kp_ok1 ic (kf_fit oP a_number tk ic a_inA a_inB sc rs) row mn h K.1 K.2.1 j) ↔ (∀ j, i + 1 ≤ j → j < i + 1 + m → kp_ok1 ic (kf_fit oP a_number tk ic a_inA a_inB sc rs) row mn h K.1 K.2.1 j) := by
          constructor
          · exact fun z j h1 h2 => z j (by omega) (by omega)
          · intro z j h1 h2
            by_cases e : j = i
            · rw [e]; exact ok
            · exact z j (by omega) (by omega)
        refine ⟨fe', st', fi', C', fun z => ?_, fun z post hp n hn => ?_⟩
        · obtain ⟨f1, W1⟩ := R1 (up.mp z)
          refine ⟨f1, fun post W n hn => ?_⟩
          obtain ⟨n, rfl⟩ : ∃ n', n = n' + 1 := ⟨n - 1, by omega⟩
          exact gW post n (S7 post _ (fun q => absurd p q) (fun _ q => by rw [r] at q; exact nomatch q) (fun _ _ => W1 post W n (by omega)))
        · obtain ⟨n, rfl⟩ : ∃ n', n = n' + 1 := ⟨n - 1, by omega⟩
          exact gW post n (S7 post _ (fun q => absurd p q) (fun _ q => by rw [r] at q; exact nomatch q) (fun _ _ => R0 (fun w => z (up.mpr w)) post hp n (by omega)))
    · have nok : ¬ kp_ok1 ic (kf_fit oP a_number tk ic a_inA a_inB sc rs) row mn h K.1 K.2.1 i := fun q => p (go.mp q).1
      refine ⟨fe, st, fi, C, fun z => absurd (z i (Nat.le_refl _) (by omega)) nok, fun _ post hp n hn => ?_⟩
      obtain ⟨n, rfl⟩ : ∃ n', n = n' + 1 := ⟨n - 1, by omega⟩
      exact gW post n (S7 post _ (fun _ => hp) (fun q => absurd q p) (fun q => absurd q p))
end
section
variable {f_made f_blocks f_arrivals f_agains : Int32} {a_op a_number a_tokens a_used a_timed a_inCoin a_inA a_inB a_ins a_amount a_script a_outs a_parent a_height a_work a_holds a_held a_rewardScript a_reward a_delivered a_arrival a_right a_wrong a_chain a_row a_fees a_taker a_again a_before : Nat → Int32} {oP tk ic ni nu sc rs nh hd pa he : Nat → Nat} {md bk : Nat} {K : kc_K} {mn tp : Nat} {row : Nat → Nat}
theorem xx_suits {t : Nat} {fe : Int32} {st fi : Nat → Int32} (hm : t < md) (hh : tp + 1 < 100) (N : kd_N oP tk ic ni nu sc rs nh hd pa he md bk) (D : kx_D a_op a_number a_tokens a_timed a_inCoin a_ins a_outs a_script a_rewardScript a_holds a_held a_parent a_height oP tk ic ni nu sc rs nh hd pa he) (I : kc_I he (tp + 1) K) (Hr : kn_H a_row row 40) (P : kp_P ic ni md K row mn) (C : kf_C md ni a_timed (fun i => kx_s sc rs (ic i)) (kf_fit oP a_number tk ic a_inA a_inB sc rs) fi) :
    ∃ fe' st' fi', kf_C md ni a_timed (fun i => kx_s sc rs (ic i)) (kf_fit oP a_number tk ic a_inA a_inB sc rs) fi' ∧
    (kp_okS ic ni nu a_amount (kf_fit oP a_number tk ic a_inA a_inB sc rs) row mn t (tp + 1) K (kc_av a_amount a_reward) → fe' = kc_fee ic ni nu a_amount t (kc_av a_amount a_reward) ∧ ∀ post : Int32 → SX → Prop, post 1 (f_made, f_blocks, f_arrivals, nI tp, nI mn, f_agains, fe', a_op, a_number, a_tokens, a_used, a_timed, st', a_inCoin, a_inA, a_inB, a_ins, a_amount, a_script, a_outs, fi', a_parent, a_height, a_work, a_holds, a_held, a_rewardScript, a_reward, a_delivered, a_arrival, a_right, a_wrong, a_chain, K.1, K.2.1, K.2.2.1, a_row, a_fees, a_taker, a_again, a_before) → wpX_suits post (f_made, f_blocks, f_arrivals, nI tp, nI mn, f_agains, fe, a_op, a_number, a_tokens, a_used, a_timed, st, a_inCoin, a_inA, a_inB, a_ins, a_amount, a_script, a_outs, fi, a_parent, a_height, a_work, a_holds, a_held, a_rewardScript, a_reward, a_delivered, a_arrival, a_right, a_wrong, a_chain, K.1, K.2.1, K.2.2.1, a_row, a_fees, a_taker, a_again, a_before) (nI t)) ∧
    (¬ kp_okS ic ni nu a_amount (kf_fit oP a_number tk ic a_inA a_inB sc rs) row mn t (tp + 1) K (kc_av a_amount a_reward) → ∀ post : Int32 → SX → Prop, post 0 (f_made, f_blocks, f_arrivals, nI tp, nI mn, f_agains, fe', a_op, a_number, a_tokens, a_used, a_timed, st', a_inCoin, a_inA, a_inB, a_ins, a_amount, a_script, a_outs, fi', a_parent, a_height, a_work, a_holds, a_held, a_rewardScript, a_reward, a_delivered, a_arrival, a_right, a_wrong, a_chain, K.1, K.2.1, K.2.2.1, a_row, a_fees, a_taker, a_again, a_before) → wpX_suits post (f_made, f_blocks, f_arrivals, nI tp, nI mn, f_agains, fe, a_op, a_number, a_tokens, a_used, a_timed, st, a_inCoin, a_inA, a_inB, a_ins, a_amount, a_script, a_outs, fi, a_parent, a_height, a_work, a_holds, a_held, a_rewardScript, a_reward, a_delivered, a_arrival, a_right, a_wrong, a_chain, K.1, K.2.1, K.2.2.1, a_row, a_fees, a_taker, a_again, a_before) (nI t)) := by
  have m40 := kd_md N
  obtain ⟨fe', st', fi', C', R1, R0⟩ := xx_su16 (f_made := f_made) (f_blocks := f_blocks) (f_arrivals := f_arrivals) (f_top := nI tp) (f_agains := f_agains) (a_op := a_op) (a_number := a_number) (a_tokens := a_tokens) (a_used := a_used) (a_timed := a_timed) (a_inCoin := a_inCoin) (a_inA := a_inA) (a_inB := a_inB) (a_ins := a_ins) (a_amount := a_amount) (a_script := a_script) (a_outs := a_outs) (a_parent := a_parent) (a_height := a_height) (a_work := a_work) (a_holds := a_holds) (a_held := a_held) (a_rewardScript := a_rewardScript) (a_reward := a_reward) (a_delivered := a_delivered) (a_arrival := a_arrival) (a_right := a_right) (a_wrong := a_wrong) (a_chain := a_chain) (a_row := a_row) (a_fees := a_fees) (a_taker := a_taker) (a_again := a_again) (a_before := a_before) hm hh N D I Hr P (ni t) (3 * t) 0 st fi rfl (Nat.le_refl _) C
  by_cases o : ∀ i, 3 * t ≤ i → i < 3 * t + ni t → kp_ok1 ic (kf_fit oP a_number tk ic a_inA a_inB sc rs) row mn (tp + 1) K.1 K.2.1 i
  · obtain ⟨f1, W1⟩ := R1 o
    have ef : kc_sub a_amount (nu t) (3 * t) fe' = kc_fee ic ni nu a_amount t (kc_av a_amount a_reward) := by rw [f1]; rfl
    refine ⟨kc_sub a_amount (nu t) (3 * t) fe', st', fi', C', fun ok => ⟨ef, fun post hp => ?_⟩, fun nok post hp => ?_⟩
    · refine nm_r (nI_1 tp) (nm_r (kn_m3 t) ⟨ni t + 1, W1 post ⟨nu t + 1, xx_su136 (by omega) D (nu t) (3 * t) fe' _ rfl (by omega) (fun _ => hp) (fun q => ?_)⟩ _ (by omega)⟩)
      exact absurd (by rw [ef]; exact ok.2) q
    · refine nm_r (nI_1 tp) (nm_r (kn_m3 t) ⟨ni t + 1, W1 post ⟨nu t + 1, xx_su136 (by omega) D (nu t) (3 * t) fe' _ rfl (by omega) (fun q => ?_) (fun _ => hp)⟩ _ (by omega)⟩)
      exact absurd ⟨o, by rw [← ef]; exact q⟩ nok
  · exact ⟨fe', st', fi', C', fun ok => absurd ok.1 o, fun _ post hp => nm_r (nI_1 tp) (nm_r (kn_m3 t) ⟨ni t + 1, R0 o post hp _ (by omega)⟩)⟩
end
theorem xx_no1 {post : Int32 → Prop} {j n : Nat} (h : j < n) (hn : n < 2 ^ 31) (k : post 0) : wpX_no post (nI j) (nI n) := br_f (nI_pos (by omega)) (br_t (nI_lt h hn) k)
theorem xx_no0 {post : Int32 → Prop} {x y : Int32} (h : x < 0 ∨ y ≤ x) (k : post 1) : wpX_no post x y := by
  by_cases z : x < 0
  · exact br_t z k
  · exact br_f z (br_f (fun q => Int32.not_lt.mpr (h.resolve_left z) q) k)
theorem yy_in1 {post : Int32 → Prop} {j n : Nat} (h : j < n) (hn : n < 2 ^ 31) (k : post 1) : wpY_in post (nI j) (nI n) := br_f (nI_pos (by omega)) (br_f (nI_ge h hn) k)
theorem yy_in0 {post : Int32 → Prop} {x y : Int32} (h : x < 0 ∨ y ≤ x) (k : post 0) : wpY_in post x y := by
  by_cases z : x < 0
  · exact br_t z k
  · exact br_f z (br_t (h.resolve_left z) k)
section
variable {f_blocks f_arrivals f_agains : Int32} {a_op a_number a_tokens a_used a_timed a_inCoin a_inA a_inB a_ins a_amount a_script a_outs a_parent a_height a_work a_holds a_held a_rewardScript a_reward a_delivered a_arrival a_right a_wrong a_chain a_again a_before : Nat → Int32} {oP tk ic ni nu sc rs nh hd pa he : Nat → Nat} {md bk : Nat} {K : kc_K} {mn tp : Nat} {row : Nat → Nat} {ra fs tr : Nat → Int32}
theorem xx_en_ref {post : Int32 → SX → Prop} {fe rep v : Int32} {st fi : Nat → Int32} (N : kd_N oP tk ic ni nu sc rs nh hd pa he md bk) (Hr : kn_H ra row 40) (P12 : mn ≤ 12)
    (h : v < 0 ∨ nI md ≤ v ∨ ∃ t, t < md ∧ v = nI t ∧ (¬ K.2.2.1 t < 0 ∨ ∃ k, k < mn ∧ row k = t)) (hp : post (-2) (nI md, f_blocks, f_arrivals, nI tp, nI mn, f_agains, fe, a_op, a_number, a_tokens, a_used, a_timed, st, a_inCoin, a_inA, a_inB, a_ins, a_amount, a_script, a_outs, fi, a_parent, a_height, a_work, a_holds, a_held, a_rewardScript, a_reward, a_delivered, a_arrival, a_right, a_wrong, a_chain, K.1, K.2.1, K.2.2.1, ra, fs, tr, a_again, a_before)) : wpX_enter post (nI md, f_blocks, f_arrivals, nI tp, nI mn, f_agains, fe, a_op, a_number, a_tokens, a_used, a_timed, st, a_inCoin, a_inA, a_inB, a_ins, a_amount, a_script, a_outs, fi, a_parent, a_height, a_work, a_holds, a_held, a_rewardScript, a_reward, a_delivered, a_arrival, a_right, a_wrong, a_chain, K.1, K.2.1, K.2.2.1, ra, fs, tr, a_again, a_before) v rep := by
  have m40 := kd_md N
  by_cases z : v < 0 ∨ nI md ≤ v
  · unfold wpX_enter
    refine xx_no0 z ?_
    exact br_f kn_10 hp
  · rcases h with q | q | ⟨t, ht, rfl, q⟩
    · exact absurd (Or.inl q) z
    · exact absurd (Or.inr q) z
    · unfold wpX_enter
      refine xx_no1 ht (by omega) ?_
      refine br_t rfl (And.intro (pk_in t 40 (by omega)) ?_)
      rw [nI_clamp (by omega)]
      by_cases y : K.2.2.1 t < 0
      · refine br_t y (xx_inPool (by omega) P12 Hr (fun k hk _ => br_f (nI_pos (by omega)) hp) (fun w => ?_))
        rcases q with q | ⟨k, hk, ek⟩
        · exact absurd y q
        · exact absurd ek (w k hk)
      · exact br_f y hp
theorem xx_en {t : Nat} {fe rep : Int32} {st fi : Nat → Int32} (ht : t < md) (h32 : tp + 1 < 100) (N : kd_N oP tk ic ni nu sc rs nh hd pa he md bk) (D : kx_D a_op a_number a_tokens a_timed a_inCoin a_ins a_outs a_script a_rewardScript a_holds a_held a_parent a_height oP tk ic ni nu sc rs nh hd pa he) (I : kc_I he (tp + 1) K) (Hr : kn_H ra row 40) (P : kp_P ic ni md K row mn) (X : kp_X ic ni nu a_amount a_reward row mn fs tr) (C : kf_C md ni a_timed (fun i => kx_s sc rs (ic i)) (kf_fit oP a_number tk ic a_inA a_inB sc rs) fi)
    (hw : K.2.2.1 t < 0) (hn : ∀ k, k < mn → row k ≠ t) :
    ∃ set fe' st' fi', kp_S ic ni row mn t set ∧ kf_C md ni a_timed (fun i => kx_s sc rs (ic i)) (kf_fit oP a_number tk ic a_inA a_inB sc rs) fi' ∧
    (¬ kp_okS ic ni nu a_amount (kf_fit oP a_number tk ic a_inA a_inB sc rs) row mn t (tp + 1) K (kc_av a_amount a_reward) → ∀ post : Int32 → SX → Prop, post (-3) (nI md, f_blocks, f_arrivals, nI tp, nI mn, f_agains, fe', a_op, a_number, a_tokens, a_used, a_timed, st', a_inCoin, a_inA, a_inB, a_ins, a_amount, a_script, a_outs, fi', a_parent, a_height, a_work, a_holds, a_held, a_rewardScript, a_reward, a_delivered, a_arrival, a_right, a_wrong, a_chain, K.1, K.2.1, K.2.2.1, ra, fs, tr, a_again, a_before) → wpX_enter post (nI md, f_blocks, f_arrivals, nI tp, nI mn, f_agains, fe, a_op, a_number, a_tokens, a_used, a_timed, st, a_inCoin, a_inA, a_inB, a_ins, a_amount, a_script, a_outs, fi, a_parent, a_height, a_work, a_holds, a_held, a_rewardScript, a_reward, a_delivered, a_arrival, a_right, a_wrong, a_chain, K.1, K.2.1, K.2.2.1, ra, fs, tr, a_again, a_before) (nI t) rep) ∧
    (kp_okS ic ni nu a_amount (kf_fit oP a_number tk ic a_inA a_inB sc rs) row mn t (tp + 1) K (kc_av a_amount a_reward) → ∀ post : Int32 → SX → Prop,
      ((∃ j, j < mn ∧ bt set j = true ∧ kp_nd ic ni t (row j)) → post (-3) (nI md, f_blocks, f_arrivals, nI tp, nI mn, f_agains, kc_fee ic ni nu a_amount t (kc_av a_amount a_reward), a_op, a_number, a_tokens, a_used, a_timed, st', a_inCoin, a_inA, a_inB, a_ins, a_amount, a_script, a_outs, fi', a_parent, a_height, a_work, a_holds, a_held, a_rewardScript, a_reward, a_delivered, a_arrival, a_right, a_wrong, a_chain, K.1, K.2.1, K.2.2.1, ra, fs, tr, a_again, a_before)) →
      ((∀ j, j < mn → bt set j = true → ¬ kp_nd ic ni t (row j)) → ¬ set = 0 → (rep = 0 ∨ ¬ kp_fs set fs mn 0 0 < kc_fee ic ni nu a_amount t (kc_av a_amount a_reward)) → post (-4) (nI md, f_blocks, f_arrivals, nI tp, nI mn, f_agains, kc_fee ic ni nu a_amount t (kc_av a_amount a_reward), a_op, a_number, a_tokens, a_used, a_timed, st', a_inCoin, a_inA, a_inB, a_ins, a_amount, a_script, a_outs, fi', a_parent, a_height, a_work, a_holds, a_held, a_rewardScript, a_reward, a_delivered, a_arrival, a_right, a_wrong, a_chain, K.1, K.2.1, K.2.2.1, ra, fs, tr, a_again, a_before)) →
      ((∀ j, j < mn → bt set j = true → ¬ kp_nd ic ni t (row j)) → (set = 0 ∨ (¬ rep = 0 ∧ kp_fs set fs mn 0 0 < kc_fee ic ni nu a_amount t (kc_av a_amount a_reward))) → kp_cc set mn 0 0 = 12 → post (-5) (nI md, f_blocks, f_arrivals, nI tp, nI (kp_cc set mn 0 0), f_agains, kc_fee ic ni nu a_amount t (kc_av a_amount a_reward), a_op, a_number, a_tokens, a_used, a_timed, st', a_inCoin, a_inA, a_inB, a_ins, a_amount, a_script, a_outs, fi', a_parent, a_height, a_work, a_holds, a_held, a_rewardScript, a_reward, a_delivered, a_arrival, a_right, a_wrong, a_chain, K.1, K.2.1, K.2.2.1, kp_ca set mn 0 0 ra, kp_ca set mn 0 0 fs, kp_ct ic ni row set mn 0 tr, a_again, a_before)) →
      ((∀ j, j < mn → bt set j = true → ¬ kp_nd ic ni t (row j)) → (set = 0 ∨ (¬ rep = 0 ∧ kp_fs set fs mn 0 0 < kc_fee ic ni nu a_amount t (kc_av a_amount a_reward))) → kp_cc set mn 0 0 < 12 → post (nI (kp_cc set mn 0 0 + 1)) (nI md, f_blocks, f_arrivals, nI tp, nI (kp_cc set mn 0 0 + 1), f_agains, kc_fee ic ni nu a_amount t (kc_av a_amount a_reward), a_op, a_number, a_tokens, a_used, a_timed, st', a_inCoin, a_inA, a_inB, a_ins, a_amount, a_script, a_outs, fi', a_parent, a_height, a_work, a_holds, a_held, a_rewardScript, a_reward, a_delivered, a_arrival, a_right, a_wrong, a_chain, K.1, K.2.1, K.2.2.1, upd (kp_ca set mn 0 0 ra) (kp_cc set mn 0 0) (nI t), upd (kp_ca set mn 0 0 fs) (kp_cc set mn 0 0) (kc_fee ic ni nu a_amount t (kc_av a_amount a_reward)), kc_sg ic (fun _ => nI t) (ni t) (3 * t) (kp_ct ic ni row set mn 0 tr), a_again, a_before)) →
      wpX_enter post (nI md, f_blocks, f_arrivals, nI tp, nI mn, f_agains, fe, a_op, a_number, a_tokens, a_used, a_timed, st, a_inCoin, a_inA, a_inB, a_ins, a_amount, a_script, a_outs, fi, a_parent, a_height, a_work, a_holds, a_held, a_rewardScript, a_reward, a_delivered, a_arrival, a_right, a_wrong, a_chain, K.1, K.2.1, K.2.2.1, ra, fs, tr, a_again, a_before) (nI t) rep) := by
  have m40 := kd_md N
  have p12 := P.1
  obtain ⟨fe', st', fi', C', S1, S0⟩ := xx_suits (f_made := nI md) (f_blocks := f_blocks) (f_arrivals := f_arrivals) (f_agains := f_agains) (a_op := a_op) (a_number := a_number) (a_tokens := a_tokens) (a_used := a_used) (a_timed := a_timed) (a_inCoin := a_inCoin) (a_inA := a_inA) (a_inB := a_inB) (a_ins := a_ins) (a_amount := a_amount) (a_script := a_script) (a_outs := a_outs) (a_parent := a_parent) (a_height := a_height) (a_work := a_work) (a_holds := a_holds) (a_held := a_held) (a_rewardScript := a_rewardScript) (a_reward := a_reward) (a_delivered := a_delivered) (a_arrival := a_arrival) (a_right := a_right) (a_wrong := a_wrong) (a_chain := a_chain) (a_row := ra) (a_fees := fs) (a_taker := tr) (a_again := a_again) (a_before := a_before) (fe := fe) (st := st) ht h32 N D I Hr P C
  obtain ⟨set, S, R⟩ := xx_rivals (f_made := nI md) (f_blocks := f_blocks) (f_arrivals := f_arrivals) (f_top := nI tp) (f_agains := f_agains) (f_feeNow := kc_fee ic ni nu a_amount t (kc_av a_amount a_reward)) (a_op := a_op) (a_number := a_number) (a_tokens := a_tokens) (a_used := a_used) (a_timed := a_timed) (a_stack := st') (a_inCoin := a_inCoin) (a_inA := a_inA) (a_inB := a_inB) (a_ins := a_ins) (a_amount := a_amount) (a_script := a_script) (a_outs := a_outs) (a_fitting := fi') (a_parent := a_parent) (a_height := a_height) (a_work := a_work) (a_holds := a_holds) (a_held := a_held) (a_rewardScript := a_rewardScript) (a_reward := a_reward) (a_delivered := a_delivered) (a_arrival := a_arrival) (a_right := a_right) (a_wrong := a_wrong) (a_chain := a_chain) (a_born := K.1) (a_spent := K.2.1) (a_since := K.2.2.1) (a_row := ra) (a_fees := fs) (a_taker := tr) (a_again := a_again) (a_before := a_before) ht Hr N D P I X
  have opn : ∀ post : Int32 → SX → Prop, wpX_suits (fun r u => match u with | (f_made, f_blocks, f_arrivals, f_top, f_many, f_agains, f_feeNow, a_op, a_number, a_tokens, a_used, a_timed, a_stack, a_inCoin, a_inA, a_inB, a_ins, a_amount, a_script, a_outs, a_fitting, a_parent, a_height, a_work, a_holds, a_held, a_rewardScript, a_reward, a_delivered, a_arrival, a_right, a_wrong, a_chain, a_born, a_spent, a_since, a_row, a_fees, a_taker, a_again, a_before) => ((r = 0 → post (-3) (f_made, f_blocks, f_arrivals, f_top, f_many, f_agains, f_feeNow, a_op, a_number, a_tokens, a_used, a_timed, a_stack, a_inCoin, a_inA, a_inB, a_ins, a_amount, a_script, a_outs, a_fitting, a_parent, a_height, a_work, a_holds, a_held, a_rewardScript, a_reward, a_delivered, a_arrival, a_right, a_wrong, a_chain, a_born, a_spent, a_since, a_row, a_fees, a_taker, a_again, a_before)) ∧ (¬ r = 0 → (wpX_rivals (fun r2 => ((r2 = 0 → wX_enter_149 post (nI t) f_feeNow f_made f_blocks f_arrivals f_top f_many f_agains f_feeNow a_op a_number a_tokens a_used a_timed a_stack a_inCoin a_inA a_inB a_ins a_amount a_script a_outs a_fitting a_parent a_height a_work a_holds a_held a_rewardScript a_reward a_delivered a_arrival a_right a_wrong a_chain a_born a_spent a_since a_row a_fees a_taker a_again a_before) ∧ (¬ r2 = 0 → ∃ n75 : Nat, wX_enter_75 post (nI t) rep f_feeNow r2 f_made f_blocks f_arrivals f_top f_many f_agains f_feeNow a_op a_number a_tokens a_used a_timed a_stack a_inCoin a_inA a_inB a_ins a_amount a_script a_outs a_fitting a_parent a_height a_work a_holds a_held a_rewardScript a_reward a_delivered a_arrival a_right a_wrong a_chain a_born a_spent a_since a_row a_fees a_taker a_again a_before n75 0 0))) (f_made, f_blocks, f_arrivals, f_top, f_many, f_agains, f_feeNow, a_op, a_number, a_tokens, a_used, a_timed, a_stack, a_inCoin, a_inA, a_inB, a_ins, a_amount, a_script, a_outs, a_fitting, a_parent, a_height, a_work, a_holds, a_held, a_rewardScript, a_reward, a_delivered, a_arrival, a_right, a_wrong, a_chain, a_born, a_spent, a_since, a_row, a_fees, a_taker, a_again, a_before) (nI t))))) (nI md, f_blocks, f_arrivals, nI tp, nI mn, f_agains, fe, a_op, a_number, a_tokens, a_used, a_timed, st, a_inCoin, a_inA, a_inB, a_ins, a_amount, a_script, a_outs, fi, a_parent, a_height, a_work, a_holds, a_held, a_rewardScript, a_reward, a_delivered, a_arrival, a_right, a_wrong, a_chain, K.1, K.2.1, K.2.2.1, ra, fs, tr, a_again, a_before) (nI t) → wpX_enter post (nI md, f_blocks, f_arrivals, nI tp, nI mn, f_agains, fe, a_op, a_number, a_tokens, a_used, a_timed, st, a_inCoin, a_inA, a_inB, a_ins, a_amount, a_script, a_outs, fi, a_parent, a_height, a_work, a_holds, a_held, a_rewardScript, a_reward, a_delivered, a_arrival, a_right, a_wrong, a_chain, K.1, K.2.1, K.2.2.1, ra, fs, tr, a_again, a_before) (nI t) rep := by
    intro post W
    unfold wpX_enter
    refine xx_no1 ht (by omega) ?_
    refine br_t rfl (And.intro (pk_in t 40 (by omega)) ?_)
    rw [nI_clamp (by omega)]
    exact br_t hw (xx_inPool (by omega) p12 Hr (fun k hk ek => absurd ek (hn k hk)) (fun _ => br_t kn_m1lt W))
  refine ⟨set, fe', st', fi', S, C', fun no post hp => opn post (S0 no _ (br_t rfl hp)), fun ok post k3 k4 k5 k1 => ?_⟩
  obtain ⟨f1, W1⟩ := S1 ok
  subst f1
  refine opn post (W1 _ (br_f kn_10 (R _ (br_c (fun z => ?_) (fun z => ⟨mn + 1, ?_⟩)))))
  · subst z
    obtain ⟨z1, z2, z3⟩ := kp_z (ic := ic) (ni := ni) (row := row) mn 0 ra tr
    obtain ⟨z4, _, _⟩ := kp_z (ic := ic) (ni := ni) (row := row) mn 0 fs tr
    have nn : ∀ j, j < mn → bt 0 j = true → ¬ kp_nd ic ni t (row j) := fun j _ hb => by rw [b_0] at hb; exact nomatch hb
    have k5' := k5 nn (Or.inl rfl)
    have k1' := k1 nn (Or.inl rfl)
    rw [z1, z2, z3, z4, Nat.zero_add] at k5' k1'
    exact xx_en149 (by omega) p12 D k5' k1'
  · refine xx_en75 (by omega) p12 D Hr P.2.2.1 k3 (fun a b => k4 a z b) (fun a b c => ?_) mn 0 0 _ (by omega) rfl (by omega)
    have ex := kp_exp P S
    exact xx_en149 (by omega) (by omega) D (fun y => k5 a (Or.inr ⟨b, c⟩) y) (fun y => k1 a (Or.inr ⟨b, c⟩) y)
end
end
section
/-! ===== Y: the pool ===== -/
section
variable {g_made g_blocks g_arrivals g_tip g_pooled g_chainLength : Int32} {b_op b_arg b_length b_ins b_inCoin b_inA b_inB b_outs b_amount b_lock b_parent b_work b_rewardLock b_height b_many b_holds b_delivered b_arrived b_pool b_chain b_from b_worth b_within b_spent b_stack b_again b_chosen : Nat → Int32} {oP tk ic ni nu sc rs nh hd pa he : Nat → Nat} {md bk : Nat}
theorem yy_fo69 {post : Int32 → Prop} {t : Nat} (ht : t < 40) (D : ky_D b_op b_arg b_length b_inCoin b_ins b_outs b_lock b_rewardLock b_many b_holds b_parent b_height oP tk ic ni nu sc rs nh hd pa he) : ∀ (m i : Nat) (fe : Int32) (n : Nat), i + m = 3 * t + nu t → m < n → post (kc_sub b_amount m i fe) → wY_feeOf_69 post (nI t) g_made g_blocks g_arrivals g_tip g_pooled g_chainLength b_op b_arg b_length b_ins b_inCoin b_inA b_inB b_outs b_amount b_lock b_parent b_work b_rewardLock b_height b_many b_holds b_delivered b_arrived b_pool b_chain b_from b_worth b_within b_spent b_stack b_again b_chosen n fe (nI i) := by
  have d := kn_l (dy_nu D) t
  intro m
  induction m with
  | zero =>
    intro i fe n e hn hp
    obtain ⟨n, rfl⟩ : ∃ n', n = n' + 1 := ⟨n - 1, by omega⟩
    exact And.intro (pk_in t 41 (by omega)) (pk_le (3 * t + nu t) i (fun _ => hp) (fun z => by omega) (kn_e3 (dy_nu D) t))
  | succ m ih =>
    intro i fe n e hn hp
    obtain ⟨n, rfl⟩ : ∃ n', n = n' + 1 := ⟨n - 1, by omega⟩
    exact And.intro (pk_in t 41 (by omega)) (pk_le (3 * t + nu t) i (fun _ => by omega) (fun z => And.intro (pk_in i 123 (by omega)) (nm_r (e' := fe - b_amount i) (by rw [nI_clamp (by omega)]) (nm_r (nI_1 i) (ih (i + 1) _ n (by omega) (by omega) hp)))) (kn_e3 (dy_nu D) t))
theorem yy_fo6 {post : Int32 → Prop} {t : Nat} (ht : t < 40) (D : ky_D b_op b_arg b_length b_inCoin b_ins b_outs b_lock b_rewardLock b_many b_holds b_parent b_height oP tk ic ni nu sc rs nh hd pa he) : ∀ (m i : Nat) (fe : Int32) (n : Nat), i + m = 3 * t + ni t → m < n → post (kc_sub b_amount (nu t) (3 * t) (kc_sum (fun j => kc_av b_amount (fun b => b_worth (120 + b)) (ic j)) m i fe)) → wY_feeOf_6 post (nI t) g_made g_blocks g_arrivals g_tip g_pooled g_chainLength b_op b_arg b_length b_ins b_inCoin b_inA b_inB b_outs b_amount b_lock b_parent b_work b_rewardLock b_height b_many b_holds b_delivered b_arrived b_pool b_chain b_from b_worth b_within b_spent b_stack b_again b_chosen n fe (nI i) := by
  have d := kn_l (dy_ni D) t
  intro m
  induction m with
  | zero =>
    intro i fe n e hn hp
    obtain ⟨n, rfl⟩ : ∃ n', n = n' + 1 := ⟨n - 1, by omega⟩
    exact And.intro (pk_in t 41 (by omega)) (pk_le (3 * t + ni t) i (fun _ => nm_r (kn_m3 t) ⟨nu t + 1, yy_fo69 ht D (nu t) (3 * t) fe _ rfl (by omega) hp⟩) (fun z => by omega) (kn_e3 (dy_ni D) t))
  | succ m ih =>
    intro i fe n e hn hp
    obtain ⟨n, rfl⟩ : ∃ n', n = n' + 1 := ⟨n - 1, by omega⟩
    have c := kn_at (dy_ic D) i
    have cl := kn_l (dy_ic D) i
    have ecl : (nI (ic i)).toNatClampNeg = ic i := nI_clamp (by omega)
    have go := ih (i + 1) (fe + kc_av b_amount (fun b => b_worth (120 + b)) (ic i)) n (by omega) (by omega) hp
    refine And.intro (pk_in t 41 (by omega)) (pk_le (3 * t + ni t) i (fun _ => by omega) (fun z => And.intro (pk_in i 123 (by omega)) ?_) (kn_e3 (dy_ni D) t))
    rw [c, ecl]
    refine pk_le 120 (ic i) (fun y => And.intro (pk_in i 123 (by omega)) (And.intro (pk_in (ic i) 152 cl) (nm_r (e' := fe + kc_av b_amount (fun b => b_worth (120 + b)) (ic i)) ?_ (nm_r (nI_1 i) go)))) (fun y => And.intro (pk_in i 123 (by omega)) (And.intro (pk_in (ic i) 123 (by omega)) (nm_r (e' := fe + kc_av b_amount (fun b => b_worth (120 + b)) (ic i)) ?_ (nm_r (nI_1 i) go))))
    · unfold kc_av; rw [if_neg (by omega)]; dsimp only; rw [show 120 + (ic i - 120) = ic i by omega]
    · unfold kc_av; rw [if_pos y]
theorem yy_feeOf {post : Int32 → Prop} {t : Nat} (ht : t < 40) (D : ky_D b_op b_arg b_length b_inCoin b_ins b_outs b_lock b_rewardLock b_many b_holds b_parent b_height oP tk ic ni nu sc rs nh hd pa he) (hp : post (kc_fee ic ni nu b_amount t (kc_av b_amount (fun b => b_worth (120 + b))))) : wpY_feeOf post (g_made, g_blocks, g_arrivals, g_tip, g_pooled, g_chainLength, b_op, b_arg, b_length, b_ins, b_inCoin, b_inA, b_inB, b_outs, b_amount, b_lock, b_parent, b_work, b_rewardLock, b_height, b_many, b_holds, b_delivered, b_arrived, b_pool, b_chain, b_from, b_worth, b_within, b_spent, b_stack, b_again, b_chosen) (nI t) :=
  nm_r (kn_m3 t) ⟨ni t + 1, yy_fo6 ht D (ni t) (3 * t) 0 _ rfl (by omega) hp⟩
theorem yy_nd4 {post : Int32 → Prop} {t u : Nat} (ht : t < 40) (hu : u < 40) (D : ky_D b_op b_arg b_length b_inCoin b_ins b_outs b_lock b_rewardLock b_many b_holds b_parent b_height oP tk ic ni nu sc rs nh hd pa he) (k1 : kp_nd ic ni t u → post 1) (k0 : ¬ kp_nd ic ni t u → post 0) :
    ∀ (m i n : Nat), i + m = 3 * t + ni t → 3 * t ≤ i → (∀ x, 3 * t ≤ x → x < i → ¬ (ic x < 120 ∧ ic x / 3 = u)) → m < n → wY_needs_4 post (nI t) (nI u) g_made g_blocks g_arrivals g_tip g_pooled g_chainLength b_op b_arg b_length b_ins b_inCoin b_inA b_inB b_outs b_amount b_lock b_parent b_work b_rewardLock b_height b_many b_holds b_delivered b_arrived b_pool b_chain b_from b_worth b_within b_spent b_stack b_again b_chosen n (nI i) := by
  have d := kn_l (dy_ni D) t
  intro m
  induction m with
  | zero =>
    intro i n e h3 M hn
    obtain ⟨n, rfl⟩ : ∃ n', n = n' + 1 := ⟨n - 1, by omega⟩
    refine And.intro (pk_in t 41 (by omega)) (pk_le (3 * t + ni t) i (fun _ => k0 (fun q => ?_)) (fun z => by omega) (kn_e3 (dy_ni D) t))
    obtain ⟨x, x1, x2, x3, x4⟩ := q
    exact M x x1 (by omega) ⟨x3, x4⟩
  | succ m ih =>
    intro i n e h3 M hn
    obtain ⟨n, rfl⟩ : ∃ n', n = n' + 1 := ⟨n - 1, by omega⟩
    have c := kn_at (dy_ic D) i
    have cl := kn_l (dy_ic D) i
    have skip : ¬ (ic i < 120 ∧ ic i / 3 = u) → wY_needs_4 post (nI t) (nI u) g_made g_blocks g_arrivals g_tip g_pooled g_chainLength b_op b_arg b_length b_ins b_inCoin b_inA b_inB b_outs b_amount b_lock b_parent b_work b_rewardLock b_height b_many b_holds b_delivered b_arrived b_pool b_chain b_from b_worth b_within b_spent b_stack b_again b_chosen n (nI (i + 1)) := by
      intro q
      refine ih (i + 1) n (by omega) (by omega) (fun x x1 x2 => ?_) (by omega)
      by_cases y : x = i
      · subst y; exact q
      · exact M x x1 (by omega)
    refine And.intro (pk_in t 41 (by omega)) (pk_le (3 * t + ni t) i (fun _ => by omega) (fun z => And.intro (pk_in i 123 (by omega)) ?_) (kn_e3 (dy_ni D) t))
    rw [c]
    refine pk_le 120 (ic i) (fun z => nm_r (nI_1 i) (skip (fun q => by omega))) (fun z => And.intro (pk_in i 123 (by omega)) (And.intro (by decide) ?_))
    rw [kn_d3 (by omega)]
    exact pk_eq (ic i / 3) u (fun y => k1 ⟨i, h3, by omega, z, y⟩) (fun y => nm_r (nI_1 i) (skip (fun q => y q.2)))
theorem yy_needs {post : Int32 → Prop} {t u : Nat} (ht : t < 40) (hu : u < 40) (D : ky_D b_op b_arg b_length b_inCoin b_ins b_outs b_lock b_rewardLock b_many b_holds b_parent b_height oP tk ic ni nu sc rs nh hd pa he) (k1 : kp_nd ic ni t u → post 1) (k0 : ¬ kp_nd ic ni t u → post 0) : wpY_needs post (g_made, g_blocks, g_arrivals, g_tip, g_pooled, g_chainLength, b_op, b_arg, b_length, b_ins, b_inCoin, b_inA, b_inB, b_outs, b_amount, b_lock, b_parent, b_work, b_rewardLock, b_height, b_many, b_holds, b_delivered, b_arrived, b_pool, b_chain, b_from, b_worth, b_within, b_spent, b_stack, b_again, b_chosen) (nI t) (nI u) :=
  nm_r (kn_m3 t) ⟨ni t + 1, yy_nd4 ht hu D k1 k0 (ni t) (3 * t) _ rfl (Nat.le_refl _) (fun x h1 h2 => by omega) (by omega)⟩
theorem yy_s23 {post : Int32 → Prop} {J : Int32 → Prop} {u x : Nat} {x1 : Int32} (hu : u < 40) (hx : x < 123) (D : ky_D b_op b_arg b_length b_inCoin b_ins b_outs b_lock b_rewardLock b_many b_holds b_parent b_height oP tk ic ni nu sc rs nh hd pa he) (k1 : kp_in ic ni u (ic x) → post 1) (k0 : ¬ kp_in ic ni u (ic x) → J (nI (x + 1))) :
    ∀ (m i n : Nat), i + m = 3 * u + ni u → 3 * u ≤ i → (∀ y, 3 * u ≤ y → y < i → ¬ ic y = ic x) → m < n → wY_share_23 post J x1 (nI u) (nI x) g_made g_blocks g_arrivals g_tip g_pooled g_chainLength b_op b_arg b_length b_ins b_inCoin b_inA b_inB b_outs b_amount b_lock b_parent b_work b_rewardLock b_height b_many b_holds b_delivered b_arrived b_pool b_chain b_from b_worth b_within b_spent b_stack b_again b_chosen n (nI i) := by
  have d := kn_l (dy_ni D) u
  intro m
  induction m with
  | zero =>
    intro i n e h3 M hn
    obtain ⟨n, rfl⟩ : ∃ n', n = n' + 1 := ⟨n - 1, by omega⟩
    refine And.intro (pk_in u 41 (by omega)) (pk_le (3 * u + ni u) i (fun _ => nm_r (nI_1 x) (k0 (fun q => ?_))) (fun z => by omega) (kn_e3 (dy_ni D) u))
    obtain ⟨y, y1, y2, y3⟩ := q
    exact M y y1 (by omega) y3
  | succ m ih =>
    intro i n e h3 M hn
    obtain ⟨n, rfl⟩ : ∃ n', n = n' + 1 := ⟨n - 1, by omega⟩
    have c := kn_at (dy_ic D) i
    have cl := kn_l (dy_ic D) i
    have c' := kn_at (dy_ic D) x
    have cl' := kn_l (dy_ic D) x
    refine And.intro (pk_in u 41 (by omega)) (pk_le (3 * u + ni u) i (fun _ => by omega) (fun z => And.intro (pk_in x 123 hx) (And.intro (pk_in i 123 (by omega)) ?_)) (kn_e3 (dy_ni D) u))
    rw [c, c']
    refine pk_eq (ic x) (ic i) (fun y => k1 ⟨i, h3, by omega, y.symm⟩) (fun y => nm_r (nI_1 i) (ih (i + 1) n (by omega) (by omega) (fun y' h1 h2 => ?_) (by omega)))
    by_cases q : y' = i
    · subst q; exact fun q => y q.symm
    · exact M y' h1 (by omega)
theorem yy_s4 {post : Int32 → Prop} {t u : Nat} (ht : t < 40) (hu : u < 40) (D : ky_D b_op b_arg b_length b_inCoin b_ins b_outs b_lock b_rewardLock b_many b_holds b_parent b_height oP tk ic ni nu sc rs nh hd pa he) (k1 : kp_sh ic ni t u → post 1) (k0 : ¬ kp_sh ic ni t u → post 0) :
    ∀ (m i n : Nat), i + m = 3 * t + ni t → 3 * t ≤ i → (∀ x, 3 * t ≤ x → x < i → ¬ kp_in ic ni u (ic x)) → m < n → wY_share_4 post (nI t) (nI u) g_made g_blocks g_arrivals g_tip g_pooled g_chainLength b_op b_arg b_length b_ins b_inCoin b_inA b_inB b_outs b_amount b_lock b_parent b_work b_rewardLock b_height b_many b_holds b_delivered b_arrived b_pool b_chain b_from b_worth b_within b_spent b_stack b_again b_chosen n (nI i) := by
  have d := kn_l (dy_ni D) t
  intro m
  induction m with
  | zero =>
    intro i n e h3 M hn
    obtain ⟨n, rfl⟩ : ∃ n', n = n' + 1 := ⟨n - 1, by omega⟩
    refine And.intro (pk_in t 41 (by omega)) (pk_le (3 * t + ni t) i (fun _ => k0 (fun q => ?_)) (fun z => by omega) (kn_e3 (dy_ni D) t))
    obtain ⟨c, ⟨x, x1, x2, x3⟩, x4⟩ := q
    exact M x x1 (by omega) (by rw [x3]; exact x4)
  | succ m ih =>
    intro i n e h3 M hn
    obtain ⟨n, rfl⟩ : ∃ n', n = n' + 1 := ⟨n - 1, by omega⟩
    refine And.intro (pk_in t 41 (by omega)) (pk_le (3 * t + ni t) i (fun _ => by omega) (fun z => nm_r (kn_m3 u) ⟨ni u + 1, ?_⟩) (kn_e3 (dy_ni D) t))
    refine yy_s23 hu (by omega) D (fun q => k1 ⟨ic i, ⟨i, h3, by omega, rfl⟩, q⟩) (fun q => ih (i + 1) n (by omega) (by omega) (fun x h1 h2 => ?_) (by omega)) (ni u) (3 * u) _ rfl (Nat.le_refl _) (fun y h1 h2 => by omega) (by omega)
    by_cases y : x = i
    · subst y; exact q
    · exact M x h1 (by omega)
theorem yy_share {post : Int32 → Prop} {t u : Nat} (ht : t < 40) (hu : u < 40) (D : ky_D b_op b_arg b_length b_inCoin b_ins b_outs b_lock b_rewardLock b_many b_holds b_parent b_height oP tk ic ni nu sc rs nh hd pa he) (k1 : kp_sh ic ni t u → post 1) (k0 : ¬ kp_sh ic ni t u → post 0) : wpY_share post (g_made, g_blocks, g_arrivals, g_tip, g_pooled, g_chainLength, b_op, b_arg, b_length, b_ins, b_inCoin, b_inA, b_inB, b_outs, b_amount, b_lock, b_parent, b_work, b_rewardLock, b_height, b_many, b_holds, b_delivered, b_arrived, b_pool, b_chain, b_from, b_worth, b_within, b_spent, b_stack, b_again, b_chosen) (nI t) (nI u) :=
  nm_r (kn_m3 t) ⟨ni t + 1, yy_s4 ht hu D k1 k0 (ni t) (3 * t) _ rfl (Nat.le_refl _) (fun x h1 h2 => by omega) (by omega)⟩
end
section
variable {g_made g_blocks g_arrivals g_tip g_chainLength : Int32} {b_op b_arg b_length b_ins b_inCoin b_inA b_inB b_outs b_amount b_lock b_parent b_work b_rewardLock b_height b_many b_holds b_delivered b_arrived b_pool b_chain b_from b_worth b_within b_spent b_stack b_again b_chosen : Nat → Int32} {oP tk ic ni nu sc rs nh hd pa he : Nat → Nat} {md bk : Nat} {mn : Nat} {row : Nat → Nat}
theorem yy_ip2 {post : Int32 → Prop} {x : Nat} (hx : x < 100) (h12 : mn ≤ 12) (Hr : kn_H b_pool row 40) (k1 : (∃ k, k < mn ∧ row k = x) → post 1) (k0 : (∀ k, k < mn → row k ≠ x) → post 0) :
    ∀ (m i n : Nat), i + m = mn → (∀ j, j < i → row j ≠ x) → m < n → wY_isPooled_2 post (nI x) g_made g_blocks g_arrivals g_tip (nI mn) g_chainLength b_op b_arg b_length b_ins b_inCoin b_inA b_inB b_outs b_amount b_lock b_parent b_work b_rewardLock b_height b_many b_holds b_delivered b_arrived b_pool b_chain b_from b_worth b_within b_spent b_stack b_again b_chosen n (nI i) := by
  intro m
  induction m with
  | zero =>
    intro i n e M hn
    obtain ⟨n, rfl⟩ : ∃ n', n = n' + 1 := ⟨n - 1, by omega⟩
    exact pk_le mn i (fun _ => k0 (fun k hk => M k (by omega))) (fun z => by omega)
  | succ m ih =>
    intro i n e M hn
    obtain ⟨n, rfl⟩ : ∃ n', n = n' + 1 := ⟨n - 1, by omega⟩
    have rl := kn_l Hr i
    refine pk_le mn i (fun z => by omega) (fun _ => And.intro (pk_in i 12 (by omega)) ?_)
    rw [kn_at Hr i]
    refine pk_eq (row i) x (fun z => k1 ⟨i, by omega, z⟩) (fun z => nm_r (nI_1 i) (ih (i + 1) n (by omega) (fun j hj => ?_) (by omega)))
    by_cases q : j = i
    · rw [q]; exact z
    · exact M j (by omega)
theorem yy_isPooled {post : Int32 → Prop} {x : Nat} (hx : x < 100) (h12 : mn ≤ 12) (Hr : kn_H b_pool row 40) (k1 : (∃ k, k < mn ∧ row k = x) → post 1) (k0 : (∀ k, k < mn → row k ≠ x) → post 0) : wpY_isPooled post (g_made, g_blocks, g_arrivals, g_tip, nI mn, g_chainLength, b_op, b_arg, b_length, b_ins, b_inCoin, b_inA, b_inB, b_outs, b_amount, b_lock, b_parent, b_work, b_rewardLock, b_height, b_many, b_holds, b_delivered, b_arrived, b_pool, b_chain, b_from, b_worth, b_within, b_spent, b_stack, b_again, b_chosen) (nI x) :=
  ⟨mn + 1, yy_ip2 hx h12 Hr k1 k0 mn 0 _ (by omega) (fun j hj => by omega) (by omega)⟩
theorem yy_isPoolCoin {post : Int32 → Prop} {c : Nat} (hc : c < 152) (h12 : mn ≤ 12) (Hr : kn_H b_pool row 40) (k1 : kp_pl row mn c → post 1) (k0 : ¬ kp_pl row mn c → post 0) : wpY_isPoolCoin post (g_made, g_blocks, g_arrivals, g_tip, nI mn, g_chainLength, b_op, b_arg, b_length, b_ins, b_inCoin, b_inA, b_inB, b_outs, b_amount, b_lock, b_parent, b_work, b_rewardLock, b_height, b_many, b_holds, b_delivered, b_arrived, b_pool, b_chain, b_from, b_worth, b_within, b_spent, b_stack, b_again, b_chosen) (nI c) := by
  refine pk_le 120 c (fun z => k0 (fun q => by have := q.1; omega)) (fun z => And.intro (by decide) ?_)
  rw [kn_d3 (by omega)]
  exact yy_isPooled (by omega) h12 Hr (fun q => br_f kn_10 (k1 ⟨z, q⟩)) (fun q => br_t rfl (k0 (fun y => by obtain ⟨_, k, h1, h2⟩ := y; exact q k h1 h2)))
end
section
variable {g_made g_blocks g_arrivals g_tip g_chainLength : Int32} {b_op b_arg b_length b_ins b_inCoin b_inA b_inB b_outs b_amount b_lock b_parent b_work b_rewardLock b_height b_many b_holds b_delivered b_arrived b_pool b_chain b_worth b_again b_chosen : Nat → Int32} {oP tk ic ni nu sc rs nh hd pa he : Nat → Nat} {md bk : Nat} {mn : Nat} {row : Nat → Nat} {K : kc_K}
theorem yy_l16 {t h : Nat} (hm : t < md) (hh : h < 100) (N : kd_N oP tk ic ni nu sc rs nh hd pa he md bk) (D : ky_D b_op b_arg b_length b_inCoin b_ins b_outs b_lock b_rewardLock b_many b_holds b_parent b_height oP tk ic ni nu sc rs nh hd pa he) (I : kc_I he h K) (Hr : kn_H b_pool row 40) (P : kp_P ic ni md K row mn) :
    ∀ (m i : Nat) (st : Nat → Int32), i + m = 3 * t + ni t → 3 * t ≤ i → ∃ st',
    ((∀ j, i ≤ j → j < i + m → kp_ok1 ic (kf_fit oP b_arg tk ic b_inA b_inB sc rs) row mn h K.1 K.2.1 j) → ∀ post : Int32 → SY → Prop, (0 ≤ kc_fee ic ni nu b_amount t (kc_av b_amount (fun b => b_worth (120 + b))) → post 0 (g_made, g_blocks, g_arrivals, g_tip, nI mn, g_chainLength, b_op, b_arg, b_length, b_ins, b_inCoin, b_inA, b_inB, b_outs, b_amount, b_lock, b_parent, b_work, b_rewardLock, b_height, b_many, b_holds, b_delivered, b_arrived, b_pool, b_chain, K.1, b_worth, K.2.2.1, K.2.1, st', b_again, b_chosen)) → (¬ 0 ≤ kc_fee ic ni nu b_amount t (kc_av b_amount (fun b => b_worth (120 + b))) → post 1 (g_made, g_blocks, g_arrivals, g_tip, nI mn, g_chainLength, b_op, b_arg, b_length, b_ins, b_inCoin, b_inA, b_inB, b_outs, b_amount, b_lock, b_parent, b_work, b_rewardLock, b_height, b_many, b_holds, b_delivered, b_arrived, b_pool, b_chain, K.1, b_worth, K.2.2.1, K.2.1, st', b_again, b_chosen)) → ∀ n, m < n → wY_isLate_16 post (nI t) (nI h) n (nI i) g_made g_blocks g_arrivals g_tip (nI mn) g_chainLength b_op b_arg b_length b_ins b_inCoin b_inA b_inB b_outs b_amount b_lock b_parent b_work b_rewardLock b_height b_many b_holds b_delivered b_arrived b_pool b_chain K.1 b_worth K.2.2.1 K.2.1 st b_again b_chosen) ∧
    (¬ (∀ j, i ≤ j → j < i + m → kp_ok1 ic (kf_fit oP b_arg tk ic b_inA b_inB sc rs) row mn h K.1 K.2.1 j) → ∀ post : Int32 → SY → Prop, post 1 (g_made, g_blocks, g_arrivals, g_tip, nI mn, g_chainLength, b_op, b_arg, b_length, b_ins, b_inCoin, b_inA, b_inB, b_outs, b_amount, b_lock, b_parent, b_work, b_rewardLock, b_height, b_many, b_holds, b_delivered, b_arrived, b_pool, b_chain, K.1, b_worth, K.2.2.1, K.2.1, st', b_again, b_chosen) → ∀ n, m < n → wY_isLate_16 post (nI t) (nI h) n (nI i) g_made g_blocks g_arrivals g_tip (nI mn) g_chainLength b_op b_arg b_length b_ins b_inCoin b_inA b_inB b_outs b_amount b_lock b_parent b_work b_rewardLock b_height b_many b_holds b_delivered b_arrived b_pool b_chain K.1 b_worth K.2.2.1 K.2.1 st b_again b_chosen) := by
  have d := kn_l (dy_ni D) t
  have m40 := kd_md N
  intro m
  induction m with
  | zero =>
    intro i st e h3
    refine ⟨st, fun _ post k1 k0 n hn => ?_, fun z => absurd (fun j h1 h2 => by omega) z⟩
    obtain ⟨n, rfl⟩ : ∃ n', n = n' + 1 := ⟨n - 1, by omega⟩
    exact And.intro (pk_in t 41 (by omega)) (pk_le (3 * t + ni t) i (fun _ => yy_feeOf (by omega) D (br_c k1 k0)) (fun z => by omega) (kn_e3 (dy_ni D) t))
  | succ m ih =>
    intro i st e h3
    have c := kn_at (dy_ic D) i
    have cl := kn_l (dy_ic D) i
    have ecl : (nI (ic i)).toNatClampNeg = ic i := nI_clamp (by omega)
    have ei : (nI i).toNatClampNeg = i := nI_clamp (by omega)
    -- the run of the script at a height g
    have run : ∀ g : Int32, ∃ st1, ∀ (post : Int32 → SY → Prop) (J : Int32 → Int32 → Int32 → Int32 → Int32 → Int32 → Int32 → (Nat → Int32) → (Nat → Int32) → (Nat → Int32) → (Nat → Int32) → (Nat → Int32) → (Nat → Int32) → (Nat → Int32) → (Nat → Int32) → (Nat → Int32) → (Nat → Int32) → (Nat → Int32) → (Nat → Int32) → (Nat → Int32) → (Nat → Int32) → (Nat → Int32) → (Nat → Int32) → (Nat → Int32) → (Nat → Int32) → (Nat → Int32) → (Nat → Int32) → (Nat → Int32) → (Nat → Int32) → (Nat → Int32) → (Nat → Int32) → (Nat → Int32) → (Nat → Int32) → (Nat → Int32) → Prop), ((kf_fit oP b_arg tk ic b_inA b_inB sc rs) i g (nI h) = false → post 1 (g_made, g_blocks, g_arrivals, g_tip, nI mn, g_chainLength, b_op, b_arg, b_length, b_ins, b_inCoin, b_inA, b_inB, b_outs, b_amount, b_lock, b_parent, b_work, b_rewardLock, b_height, b_many, b_holds, b_delivered, b_arrived, b_pool, b_chain, K.1, b_worth, K.2.2.1, K.2.1, st1, b_again, b_chosen)) → ((kf_fit oP b_arg tk ic b_inA b_inB sc rs) i g (nI h) = true → J (nI (i + 1)) g_made g_blocks g_arrivals g_tip (nI mn) g_chainLength b_op b_arg b_length b_ins b_inCoin b_inA b_inB b_outs b_amount b_lock b_parent b_work b_rewardLock b_height b_many b_holds b_delivered b_arrived b_pool b_chain K.1 b_worth K.2.2.1 K.2.1 st1 b_again b_chosen) → wY_isLate_135 post J (nI t) (nI h) (nI i) g (nI h) (b_inB i) (b_inA i) (nI (ic i)) g_made g_blocks g_arrivals g_tip (nI mn) g_chainLength b_op b_arg b_length b_ins b_inCoin b_inA b_inB b_outs b_amount b_lock b_parent b_work b_rewardLock b_height b_many b_holds b_delivered b_arrived b_pool b_chain K.1 b_worth K.2.2.1 K.2.1 st b_again b_chosen := by
      intro g
      obtain ⟨st1, O1⟩ := yy_fits (g_made := g_made) (g_blocks := g_blocks) (g_arrivals := g_arrivals) (g_tip := g_tip) (g_pooled := nI mn) (g_chainLength := g_chainLength) (b_op := b_op) (b_arg := b_arg) (b_length := b_length) (b_ins := b_ins) (b_inCoin := b_inCoin) (b_inA := b_inA) (b_inB := b_inB) (b_outs := b_outs) (b_amount := b_amount) (b_lock := b_lock) (b_parent := b_parent) (b_work := b_work) (b_rewardLock := b_rewardLock) (b_height := b_height) (b_many := b_many) (b_holds := b_holds) (b_delivered := b_delivered) (b_arrived := b_arrived) (b_pool := b_pool) (b_chain := b_chain) (b_from := K.1) (b_worth := b_worth) (b_within := K.2.2.1) (b_spent := K.2.1) (b_stack := st) (b_again := b_again) (b_chosen := b_chosen) (a := b_inA i) (b := b_inB i) (g := g) (h := nI h) cl (dy_tk D) (dy_op D) (dy_sk D) (dy_sc D) (dy_rs D)
      refine ⟨st1, fun post J k0 k1 => ?_⟩
      unfold wY_isLate_135
      refine O1 _ ?_
      show ((kn_b ((kf_fit oP b_arg tk ic b_inA b_inB sc rs) i g (nI h)) = 0 → _) ∧ (¬ kn_b ((kf_fit oP b_arg tk ic b_inA b_inB sc rs) i g (nI h)) = 0 → _))
      cases r : (kf_fit oP b_arg tk ic b_inA b_inB sc rs) i g (nI h) with
      | false => exact br_t rfl (k0 r)
      | true => exact br_f kn_10 (nm_r (nI_1 i) (k1 r))
    have key : ∃ g, (¬ (kp_pl row mn (ic i) ∨ (¬ K.1 (ic i) < 0 ∧ K.2.1 (ic i) = 0 ∧ (ic i < 120 ∨ ¬ nI h - 2 < K.1 (ic i)))) → ¬ kp_ok1 ic (kf_fit oP b_arg tk ic b_inA b_inB sc rs) row mn h K.1 K.2.1 i) ∧
        ((kp_pl row mn (ic i) ∨ (¬ K.1 (ic i) < 0 ∧ K.2.1 (ic i) = 0 ∧ (ic i < 120 ∨ ¬ nI h - 2 < K.1 (ic i)))) → (kp_ok1 ic (kf_fit oP b_arg tk ic b_inA b_inB sc rs) row mn h K.1 K.2.1 i ↔ (kf_fit oP b_arg tk ic b_inA b_inB sc rs) i g (nI h) = true)) ∧
        ∀ (post : Int32 → SY → Prop) (n : Nat),
          (¬ (kp_pl row mn (ic i) ∨ (¬ K.1 (ic i) < 0 ∧ K.2.1 (ic i) = 0 ∧ (ic i < 120 ∨ ¬ nI h - 2 < K.1 (ic i)))) → post 1 (g_made, g_blocks, g_arrivals, g_tip, nI mn, g_chainLength, b_op, b_arg, b_length, b_ins, b_inCoin, b_inA, b_inB, b_outs, b_amount, b_lock, b_parent, b_work, b_rewardLock, b_height, b_many, b_holds, b_delivered, b_arrived, b_pool, b_chain, K.1, b_worth, K.2.2.1, K.2.1, st, b_again, b_chosen)) →
          ((kp_pl row mn (ic i) ∨ (¬ K.1 (ic i) < 0 ∧ K.2.1 (ic i) = 0 ∧ (ic i < 120 ∨ ¬ nI h - 2 < K.1 (ic i)))) → wY_isLate_135 post (wY_isLate_16 post (nI t) (nI h) n) (nI t) (nI h) (nI i) g (nI h) (b_inB i) (b_inA i) (nI (ic i)) g_made g_blocks g_arrivals g_tip (nI mn) g_chainLength b_op b_arg b_length b_ins b_inCoin b_inA b_inB b_outs b_amount b_lock b_parent b_work b_rewardLock b_height b_many b_holds b_delivered b_arrived b_pool b_chain K.1 b_worth K.2.2.1 K.2.1 st b_again b_chosen) → wY_isLate_16 post (nI t) (nI h) (n + 1) (nI i) g_made g_blocks g_arrivals g_tip (nI mn) g_chainLength b_op b_arg b_length b_ins b_inCoin b_inA b_inB b_outs b_amount b_lock b_parent b_work b_rewardLock b_height b_many b_holds b_delivered b_arrived b_pool b_chain K.1 b_worth K.2.2.1 K.2.1 st b_again b_chosen := by
      by_cases pl : kp_pl row mn (ic i)
      · have f1 := kp_pl_n P I pl
        refine ⟨nI h, fun z => absurd (Or.inl pl) z, fun _ => ⟨fun q => ?_, fun q => Or.inl ⟨pl, q⟩⟩, fun post n _ W => ?_⟩
        · rcases q with q | q
          · exact q.2
          · exact absurd pl q.1
        · refine And.intro (pk_in t 41 (by omega)) (pk_le (3 * t + ni t) i (fun _ => by omega) (fun z => And.intro (pk_in i 123 (by omega)) (nm_r c ?_)) (kn_e3 (dy_ni D) t))
          refine yy_isPoolCoin cl P.1 Hr (fun _ => And.intro (pk_in (ic i) 152 cl) ?_) (fun q => absurd pl q)
          rw [ecl, f1]
          refine br_t kn_m1lt (br_f kn_10 (And.intro (pk_in i 123 (by omega)) (And.intro (pk_in i 123 (by omega)) ?_)))
          rw [ei]
          exact br_f kn_10 (W (Or.inl pl))
      · refine ⟨K.1 (ic i), fun z q => ?_, fun z => ⟨fun q => ?_, fun q => Or.inr ⟨pl, ?_⟩⟩, fun post n L W => ?_⟩
        · rcases q with q | q
          · exact pl q.1
          · exact z (Or.inr ⟨q.2.1, q.2.2.1, q.2.2.2.1⟩)
        · rcases q with q | q
          · exact absurd q.1 pl
          · exact q.2.2.2.2
        · rcases z with z | z
          · exact absurd z pl
          · exact ⟨z.1, z.2.1, z.2.2, q⟩
        · have w103 : (¬ K.1 (ic i) < 0 ∧ K.2.1 (ic i) = 0 ∧ (ic i < 120 ∨ ¬ nI h - 2 < K.1 (ic i))) → wY_isLate_86 post (wY_isLate_16 post (nI t) (nI h) n) (nI t) (nI h) (nI i) (nI (ic i)) 0 g_made g_blocks g_arrivals g_tip (nI mn) g_chainLength b_op b_arg b_length b_ins b_inCoin b_inA b_inB b_outs b_amount b_lock b_parent b_work b_rewardLock b_height b_many b_holds b_delivered b_arrived b_pool b_chain K.1 b_worth K.2.2.1 K.2.1 st b_again b_chosen := by
            intro a
            refine br_t rfl (br_f kn_10 (And.intro (pk_in i 123 (by omega)) (And.intro (pk_in i 123 (by omega)) ?_)))
            rw [ei, ecl]
            exact br_t rfl (And.intro (pk_in (ic i) 152 cl) (W (Or.inr a)))
          have l103 : ¬ (¬ K.1 (ic i) < 0 ∧ K.2.1 (ic i) = 0 ∧ (ic i < 120 ∨ ¬ nI h - 2 < K.1 (ic i))) → wY_isLate_90 post (wY_isLate_16 post (nI t) (nI h) n) (nI t) (nI h) (nI i) (nI (ic i)) 0 g_made g_blocks g_arrivals g_tip (nI mn) g_chainLength b_op b_arg b_length b_ins b_inCoin b_inA b_inB b_outs b_amount b_lock b_parent b_work b_rewardLock b_height b_many b_holds b_delivered b_arrived b_pool b_chain K.1 b_worth K.2.2.1 K.2.1 st b_again b_chosen := by
            intro a
            exact br_t rfl (br_t rfl (L (fun q => q.elim pl a)))
          refine And.intro (pk_in t 41 (by omega)) (pk_le (3 * t + ni t) i (fun _ => by omega) (fun z => And.intro (pk_in i 123 (by omega)) (nm_r c ?_)) (kn_e3 (dy_ni D) t))
          refine yy_isPoolCoin cl P.1 Hr (fun q => absurd q pl) (fun _ => And.intro (pk_in (ic i) 152 cl) ?_)
          rw [ecl]
          exact br_c (fun g0 => l103 (fun a => a.1 g0)) (fun g0 => And.intro (pk_in (ic i) 152 cl) (br_c (fun s0 => pk_lt (ic i) 120 (fun y => w103 ⟨g0, s0, Or.inl y⟩) (fun y => And.intro (pk_in (ic i) 152 cl) (br_c (fun q => l103 (fun a => a.2.2.elim (fun r => by omega) (fun r => r q))) (fun q => w103 ⟨g0, s0, Or.inr q⟩)))) (fun s0 => l103 (fun a => s0 a.2.1))))
    obtain ⟨g, g0, g1, gW⟩ := key
    obtain ⟨st1, O1⟩ := run g
    obtain ⟨st', R1, R0⟩ := ih (i + 1) st1 (by omega) (by omega)
    by_cases p : kp_pl row mn (ic i) ∨ (¬ K.1 (ic i) < 0 ∧ K.2.1 (ic i) = 0 ∧ (ic i < 120 ∨ ¬ nI h - 2 < K.1 (ic i)))
    · cases r : (kf_fit oP b_arg tk ic b_inA b_inB sc rs) i g (nI h) with
      | false =>
        have nok : ¬ kp_ok1 ic (kf_fit oP b_arg tk ic b_inA b_inB sc rs) row mn h K.1 K.2.1 i := fun q => by have := (g1 p).mp q; rw [r] at this; exact nomatch this
        refine ⟨st1, fun z => absurd (z i (Nat.le_refl _) (by omega)) nok, fun _ post hp n hn => ?_⟩
        obtain ⟨n, rfl⟩ : ∃ n', n = n' + 1 := ⟨n - 1, by omega⟩
        exact gW post n (fun q => absurd p q) (fun _ => O1 post _ (fun _ => hp) (fun q => by rw [r] at q; exact nomatch q))
      | true =>
        have ok := (g1 p).mpr r
        have up : (∀ j, i ≤ j → j < i + (m + 1) → kp_ok1 ic (kf_fit oP b_arg tk ic b_inA b_inB sc rs) row mn h K.1 K.2.1 j) ↔ (∀ j, i + 1 ≤ j → j < i + 1 + m → kp_ok1 ic (kf_fit oP b_arg tk ic b_inA b_inB sc rs) row mn h K.1 K.2.1 j) := by
          constructor
          · exact fun z j h1 h2 => z j (by omega) (by omega)
          · intro z j h1 h2
            by_cases e : j = i
            · rw [e]; exact ok
            · exact z j (by omega) (by omega)
        refine ⟨st', fun z post k1 k0 n hn => ?_, fun z post hp n hn => ?_⟩
        · obtain ⟨n, rfl⟩ : ∃ n', n = n' + 1 := ⟨n - 1, by omega⟩
          exact gW post n (fun q => absurd p q) (fun _ => O1 post _ (fun q => by rw [r] at q; exact nomatch q) (fun _ => R1 (up.mp z) post k1 k0 n (by omega)))
        · obtain ⟨n, rfl⟩ : ∃ n', n = n' + 1 := ⟨n - 1, by omega⟩
          exact gW post n (fun q => absurd p q) (fun _ => O1 post _ (fun q => by rw [r] at q; exact nomatch q) (fun _ => R0 (fun w => z (up.mpr w)) post hp n (by omega)))
    · have nok := g0 p
      refine ⟨st, fun z => absurd (z i (Nat.le_refl _) (by omega)) nok, fun _ post hp n hn => ?_⟩
      obtain ⟨n, rfl⟩ : ∃ n', n = n' + 1 := ⟨n - 1, by omega⟩
      exact gW post n (fun _ => hp) (fun q => absurd q p)
end
end
section
/-! ===== Y: rivals, take ===== -/
section
variable {g_made g_blocks g_arrivals g_tip g_chainLength : Int32} {b_op b_arg b_length b_ins b_inCoin b_inA b_inB b_outs b_amount b_lock b_parent b_work b_rewardLock b_height b_many b_holds b_delivered b_arrived b_pool b_chain b_from b_worth b_within b_spent b_stack b_again b_chosen : Nat → Int32} {oP tk ic ni nu sc rs nh hd pa he : Nat → Nat} {md bk : Nat} {mn : Nat} {row : Nat → Nat}
theorem yy_r54 {t : Nat} {old : Int32} {K : kc_K} (Hr : kn_H b_pool row 40) (N : kd_N oP tk ic ni nu sc rs nh hd pa he md bk) (D : ky_D b_op b_arg b_length b_inCoin b_ins b_outs b_lock b_rewardLock b_many b_holds b_parent b_height oP tk ic ni nu sc rs nh hd pa he) (P : kp_P ic ni md K row mn) :
    ∀ (m k : Nat) (set : Int32), k + m = 144 → (∀ j, bt set j = true → j < mn ∧ kp_R ic ni row mn t j) → (∀ j, bt old j = true → bt set j = true) → (∀ k', k' < k → k' / 12 < mn → k' % 12 < mn → bt old (k' / 12) = true → kp_nd ic ni (row (k' % 12)) (row (k' / 12)) → bt set (k' % 12) = true) →
    ∃ set', (∀ j, bt set' j = true → j < mn ∧ kp_R ic ni row mn t j) ∧ (∀ j, bt old j = true → bt set' j = true) ∧ (∀ i j, i < mn → j < mn → bt old j = true → kp_nd ic ni (row i) (row j) → bt set' i = true) ∧
    ∀ (post : Int32 → Prop) (J : Int32 → Int32 → Prop), J set' old → ∀ n, m < n → wY_rivals_54 post J old g_made g_blocks g_arrivals g_tip (nI mn) g_chainLength b_op b_arg b_length b_ins b_inCoin b_inA b_inB b_outs b_amount b_lock b_parent b_work b_rewardLock b_height b_many b_holds b_delivered b_arrived b_pool b_chain b_from b_worth b_within b_spent b_stack b_again b_chosen n set (nI k) := by
  have p12 := P.1
  have m40 := kd_md N
  intro m
  induction m with
  | zero =>
    intro k set e h1 h2 h3
    refine ⟨set, h1, h2, fun i j hi hj hb hq => ?_, fun post J hJ n hn => ?_⟩
    · have a : (12 * j + i) / 12 = j := by omega
      have b : (12 * j + i) % 12 = i := by omega
      have := h3 (12 * j + i) (by omega)
      rw [a, b] at this
      exact this hj hi hb hq
    · obtain ⟨n, rfl⟩ : ∃ n', n = n' + 1 := ⟨n - 1, by omega⟩
      exact pk_le 144 k (fun _ => hJ) (fun z => by omega)
  | succ m ih =>
    intro k set e h1 h2 h3
    have e5 : nI k / 12 = nI (k / 12) := pk_div (d := 12) (by omega) (by omega) (by omega)
    have e6 : nI k - nI k / 12 * 12 = nI (k % 12) := pk_rem (d := 12) (by omega) (by omega) (by omega)
    have rnd : ∀ (post : Int32 → Prop) (J : Int32 → Int32 → Prop) (n : Nat),
        (¬ (k / 12 < mn ∧ k % 12 < mn ∧ bt set (k / 12) = true ∧ kp_nd ic ni (row (k % 12)) (row (k / 12))) → wY_rivals_54 post J old g_made g_blocks g_arrivals g_tip (nI mn) g_chainLength b_op b_arg b_length b_ins b_inCoin b_inA b_inB b_outs b_amount b_lock b_parent b_work b_rewardLock b_height b_many b_holds b_delivered b_arrived b_pool b_chain b_from b_worth b_within b_spent b_stack b_again b_chosen n set (nI (k + 1))) →
        ((k / 12 < mn ∧ k % 12 < mn ∧ bt set (k / 12) = true ∧ kp_nd ic ni (row (k % 12)) (row (k / 12))) → wY_rivals_54 post J old g_made g_blocks g_arrivals g_tip (nI mn) g_chainLength b_op b_arg b_length b_ins b_inCoin b_inA b_inB b_outs b_amount b_lock b_parent b_work b_rewardLock b_height b_many b_holds b_delivered b_arrived b_pool b_chain b_from b_worth b_within b_spent b_stack b_again b_chosen n (set ||| ((1 : Int32) <<< (nI (k % 12) &&& 31))) (nI (k + 1))) →
        wY_rivals_54 post J old g_made g_blocks g_arrivals g_tip (nI mn) g_chainLength b_op b_arg b_length b_ins b_inCoin b_inA b_inB b_outs b_amount b_lock b_parent b_work b_rewardLock b_height b_many b_holds b_delivered b_arrived b_pool b_chain b_from b_worth b_within b_spent b_stack b_again b_chosen (n + 1) set (nI k) := by
      intro post J n k0 k1
      refine pk_le 144 k (fun z => by omega) (fun _ => And.intro (by decide) (nm_r e5 (And.intro (by decide) (nm_r e6 ?_))))
      refine pk_le mn (k / 12) (fun z => nm_r (nI_1 k) (k0 (fun q => by omega))) (fun z => pk_le mn (k % 12) (fun y => nm_r (nI_1 k) (k0 (fun q => by omega))) (fun y => ?_))
      have r1 := P.2.1 (k / 12) z
      have r2 := P.2.1 (k % 12) y
      cases b : bt set (k / 12) with
      | false => exact br_f (fun q => by rw [kq_s1 (by omega) set, b] at q; exact nomatch q) (nm_r (nI_1 k) (k0 (fun q => by rw [b] at q; exact nomatch q.2.2.1)))
      | true =>
        refine br_t ((kq_s1 (by omega) set).mpr b) (And.intro (pk_in (k % 12) 12 (by omega)) (And.intro (pk_in (k / 12) 12 (by omega)) ?_))
        rw [kn_at Hr (k % 12), kn_at Hr (k / 12)]
        exact yy_needs (by omega) (by omega) D (fun q => br_f kn_10 (nm_e (nm_r (nI_1 k) (k1 ⟨z, y, b, q⟩)))) (fun q => br_t rfl (nm_r (nI_1 k) (k0 (fun w => q w.2.2.2))))
    by_cases q : k / 12 < mn ∧ k % 12 < mn ∧ bt set (k / 12) = true ∧ kp_nd ic ni (row (k % 12)) (row (k / 12))
    · have ob : ∀ j, bt (set ||| ((1 : Int32) <<< (nI (k % 12) &&& 31))) j = true ↔ (bt set j = true ∨ j = k % 12) := fun j => kq_or (by omega) set
      obtain ⟨set', r1, r2, r3, R⟩ := ih (k + 1) (set ||| ((1 : Int32) <<< (nI (k % 12) &&& 31))) (by omega)
        (fun j hj => by
          rcases (ob j).mp hj with w | w
          · exact h1 j w
          · subst w; exact ⟨q.2.1, kp_R_s q.2.1 q.1 (h1 _ q.2.2.1).2 q.2.2.2⟩)
        (fun j hj => (ob j).mpr (Or.inl (h2 j hj)))
        (fun k' hk' a b c d => by
          refine (ob _).mpr ?_
          by_cases w : k' = k
          · subst w; exact Or.inr rfl
          · exact Or.inl (h3 k' (by omega) a b c d))
      refine ⟨set', r1, r2, r3, fun post J hJ n hn => ?_⟩
      obtain ⟨n, rfl⟩ : ∃ n', n = n' + 1 := ⟨n - 1, by omega⟩
      exact rnd post J n (fun w => absurd q w) (fun _ => R post J hJ n (by omega))
    · obtain ⟨set', r1, r2, r3, R⟩ := ih (k + 1) set (by omega) h1 h2
        (fun k' hk' a b c d => by
          by_cases w : k' = k
          · subst w; exact absurd ⟨a, b, h2 _ c, d⟩ q
          · exact h3 k' (by omega) a b c d)
      refine ⟨set', r1, r2, r3, fun post J hJ n hn => ?_⟩
      obtain ⟨n, rfl⟩ : ∃ n', n = n' + 1 := ⟨n - 1, by omega⟩
      exact rnd post J n (fun _ => R post J hJ n (by omega)) (fun w => absurd w q)
theorem yy_r44 {t : Nat} {K : kc_K} (Hr : kn_H b_pool row 40) (N : kd_N oP tk ic ni nu sc rs nh hd pa he md bk) (D : ky_D b_op b_arg b_length b_inCoin b_ins b_outs b_lock b_rewardLock b_many b_holds b_parent b_height oP tk ic ni nu sc rs nh hd pa he) (P : kp_P ic ni md K row mn) :
    ∀ (M : Nat) (set old : Int32), cn (fun j => bt set j = false) 12 < M → (∀ j, bt set j = true → j < mn ∧ kp_R ic ni row mn t j) → (∀ j, j < mn → kp_sh ic ni t (row j) → bt set j = true) → (set = old → ∀ i j, i < mn → j < mn → bt set j = true → kp_nd ic ni (row i) (row j) → bt set i = true) →
    ∃ set', kp_S ic ni row mn t set' ∧ ∀ (post : Int32 → Prop), post set' → ∀ n, M < n → wY_rivals_44 post g_made g_blocks g_arrivals g_tip (nI mn) g_chainLength b_op b_arg b_length b_ins b_inCoin b_inA b_inB b_outs b_amount b_lock b_parent b_work b_rewardLock b_height b_many b_holds b_delivered b_arrived b_pool b_chain b_from b_worth b_within b_spent b_stack b_again b_chosen n set old := by
  have p12 := P.1
  intro M
  induction M with
  | zero => intro set old h; omega
  | succ M ih =>
    intro set old hM h1 h2 h3
    by_cases z : set = old
    · refine ⟨set, kp_S_i h1 h2 (h3 z), fun post hp n hn => ?_⟩
      obtain ⟨n, rfl⟩ : ∃ n', n = n' + 1 := ⟨n - 1, by omega⟩
      exact br_t z hp
    · obtain ⟨set1, r1, r2, r3, R⟩ := yy_r54 (g_made := g_made) (g_blocks := g_blocks) (g_arrivals := g_arrivals) (g_tip := g_tip) (g_chainLength := g_chainLength) (b_op := b_op) (b_arg := b_arg) (b_length := b_length) (b_ins := b_ins) (b_inCoin := b_inCoin) (b_inA := b_inA) (b_inB := b_inB) (b_outs := b_outs) (b_amount := b_amount) (b_lock := b_lock) (b_parent := b_parent) (b_work := b_work) (b_rewardLock := b_rewardLock) (b_height := b_height) (b_many := b_many) (b_holds := b_holds) (b_delivered := b_delivered) (b_arrived := b_arrived) (b_pool := b_pool) (b_chain := b_chain) (b_from := b_from) (b_worth := b_worth) (b_within := b_within) (b_spent := b_spent) (b_stack := b_stack) (b_again := b_again) (b_chosen := b_chosen) (t := t) (old := set) Hr N D P 144 0 set (by omega) h1 (fun _ h => h) (fun k' hk' => by omega)
      by_cases y : set1 = set
      · subst y
        refine ⟨set1, kp_S_i h1 h2 r3, fun post hp n hn => ?_⟩
        obtain ⟨n, rfl⟩ : ∃ n', n = n' + 2 := ⟨n - 2, by omega⟩
        exact br_f z ⟨145, R post _ (br_t rfl hp) _ (by omega)⟩
      · have ⟨j, hj⟩ : ∃ j, bt set1 j = true ∧ ¬ bt set j = true := by
          apply Classical.byContradiction
          intro w
          refine y (kq_ext (fun j => ⟨fun a => ?_, r2 j⟩))
          apply Classical.byContradiction
          intro b
          exact w ⟨j, a, b⟩
        have lt : cn (fun j => bt set1 j = false) 12 < cn (fun j => bt set j = false) 12 := by
          refine cn_lt (a := j) (fun q => by rw [hj.1] at q; exact nomatch q) (kq_f.mpr hj.2) (fun k _ q => ?_) (by have := (r1 j hj.1).1; omega)
          refine kq_f.mpr (fun w => ?_)
          rw [r2 k w] at q; exact nomatch q
        obtain ⟨set', S, Q⟩ := ih set1 set (by omega) r1 (fun j a b => r2 j (h2 j a b)) (fun w => absurd w y)
        refine ⟨set', S, fun post hp n hn => ?_⟩
        obtain ⟨n, rfl⟩ : ∃ n', n = n' + 1 := ⟨n - 1, by omega⟩
        exact br_f z ⟨145, R post _ (Q post hp n (by omega)) _ (by omega)⟩
theorem yy_r7 {t : Nat} {K : kc_K} (ht : t < md) (Hr : kn_H b_pool row 40) (N : kd_N oP tk ic ni nu sc rs nh hd pa he md bk) (D : ky_D b_op b_arg b_length b_inCoin b_ins b_outs b_lock b_rewardLock b_many b_holds b_parent b_height oP tk ic ni nu sc rs nh hd pa he) (P : kp_P ic ni md K row mn) :
    ∀ (m k : Nat) (set : Int32), k + m = mn → (∀ j, bt set j = true ↔ (j < k ∧ kp_sh ic ni t (row j))) →
    ∃ set', kp_S ic ni row mn t set' ∧ ∀ (post : Int32 → Prop), post set' → ∀ n, m < n → wY_rivals_7 post (nI t) (-1) g_made g_blocks g_arrivals g_tip (nI mn) g_chainLength b_op b_arg b_length b_ins b_inCoin b_inA b_inB b_outs b_amount b_lock b_parent b_work b_rewardLock b_height b_many b_holds b_delivered b_arrived b_pool b_chain b_from b_worth b_within b_spent b_stack b_again b_chosen n set (nI k) := by
  have p12 := P.1
  have m40 := kd_md N
  intro m
  induction m with
  | zero =>
    intro k set e B
    have b31 : bt set 31 = false := kq_f.mpr (fun q => by have := (B 31).mp q; omega)
    obtain ⟨set', S, R⟩ := yy_r44 (g_made := g_made) (g_blocks := g_blocks) (g_arrivals := g_arrivals) (g_tip := g_tip) (g_chainLength := g_chainLength) (b_op := b_op) (b_arg := b_arg) (b_length := b_length) (b_ins := b_ins) (b_inCoin := b_inCoin) (b_inA := b_inA) (b_inB := b_inB) (b_outs := b_outs) (b_amount := b_amount) (b_lock := b_lock) (b_parent := b_parent) (b_work := b_work) (b_rewardLock := b_rewardLock) (b_height := b_height) (b_many := b_many) (b_holds := b_holds) (b_delivered := b_delivered) (b_arrived := b_arrived) (b_pool := b_pool) (b_chain := b_chain) (b_from := b_from) (b_worth := b_worth) (b_within := b_within) (b_spent := b_spent) (b_stack := b_stack) (b_again := b_again) (b_chosen := b_chosen) (t := t) Hr N D P 13 set (-1) (by have := cn_le (fun j => bt set j = false) 12; omega)
      (fun j hj => by obtain ⟨a, b⟩ := (B j).mp hj; exact ⟨by omega, kp_R_b (by omega) b⟩) (fun j hj hs => (B j).mpr ⟨by omega, hs⟩)
      (fun q => by rw [q, b_m1 31 (by omega)] at b31; exact nomatch b31)
    refine ⟨set', S, fun post hp n hn => ?_⟩
    obtain ⟨n, rfl⟩ : ∃ n', n = n' + 1 := ⟨n - 1, by omega⟩
    exact pk_le mn k (fun _ => ⟨14, R post hp _ (by omega)⟩) (fun z => by omega)
  | succ m ih =>
    intro k set e B
    have rk := P.2.1 k (by omega)
    by_cases q : kp_sh ic ni t (row k)
    · obtain ⟨set', S, R⟩ := ih (k + 1) (set ||| ((1 : Int32) <<< (nI k &&& 31))) (by omega) (fun j => by
        rw [kq_or (by omega) set, B j]
        constructor
        · rintro (⟨a, b⟩ | a)
          · exact ⟨by omega, b⟩
          · subst a; exact ⟨by omega, q⟩
        · rintro ⟨a, b⟩
          by_cases y : j = k
          · exact Or.inr y
          · exact Or.inl ⟨by omega, b⟩)
      refine ⟨set', S, fun post hp n hn => ?_⟩
      obtain ⟨n, rfl⟩ : ∃ n', n = n' + 1 := ⟨n - 1, by omega⟩
      refine pk_le mn k (fun z => by omega) (fun _ => And.intro (pk_in k 12 (by omega)) ?_)
      rw [kn_at Hr k]
      exact yy_share (by omega) (by omega) D (fun _ => br_f kn_10 (nm_e (nm_r (nI_1 k) (R post hp n (by omega))))) (fun w => absurd q w)
    · obtain ⟨set', S, R⟩ := ih (k + 1) set (by omega) (fun j => by
        rw [B j]
        constructor
        · rintro ⟨a, b⟩; exact ⟨by omega, b⟩
        · rintro ⟨a, b⟩
          by_cases y : j = k
          · subst y; exact absurd b q
          · exact ⟨by omega, b⟩)
      refine ⟨set', S, fun post hp n hn => ?_⟩
      obtain ⟨n, rfl⟩ : ∃ n', n = n' + 1 := ⟨n - 1, by omega⟩
      refine pk_le mn k (fun z => by omega) (fun _ => And.intro (pk_in k 12 (by omega)) ?_)
      rw [kn_at Hr k]
      exact yy_share (by omega) (by omega) D (fun w => absurd w q) (fun _ => br_t rfl (nm_r (nI_1 k) (R post hp n (by omega))))
theorem yy_rivals {t : Nat} {K : kc_K} (ht : t < md) (Hr : kn_H b_pool row 40) (N : kd_N oP tk ic ni nu sc rs nh hd pa he md bk) (D : ky_D b_op b_arg b_length b_inCoin b_ins b_outs b_lock b_rewardLock b_many b_holds b_parent b_height oP tk ic ni nu sc rs nh hd pa he) (P : kp_P ic ni md K row mn) :
    ∃ set', kp_S ic ni row mn t set' ∧ ∀ (post : Int32 → Prop), post set' → wpY_rivals post (g_made, g_blocks, g_arrivals, g_tip, nI mn, g_chainLength, b_op, b_arg, b_length, b_ins, b_inCoin, b_inA, b_inB, b_outs, b_amount, b_lock, b_parent, b_work, b_rewardLock, b_height, b_many, b_holds, b_delivered, b_arrived, b_pool, b_chain, b_from, b_worth, b_within, b_spent, b_stack, b_again, b_chosen) (nI t) := by
  obtain ⟨set', S, R⟩ := yy_r7 (g_made := g_made) (g_blocks := g_blocks) (g_arrivals := g_arrivals) (g_tip := g_tip) (g_chainLength := g_chainLength) (b_op := b_op) (b_arg := b_arg) (b_length := b_length) (b_ins := b_ins) (b_inCoin := b_inCoin) (b_inA := b_inA) (b_inB := b_inB) (b_outs := b_outs) (b_amount := b_amount) (b_lock := b_lock) (b_parent := b_parent) (b_work := b_work) (b_rewardLock := b_rewardLock) (b_height := b_height) (b_many := b_many) (b_holds := b_holds) (b_delivered := b_delivered) (b_arrived := b_arrived) (b_pool := b_pool) (b_chain := b_chain) (b_from := b_from) (b_worth := b_worth) (b_within := b_within) (b_spent := b_spent) (b_stack := b_stack) (b_again := b_again) (b_chosen := b_chosen) ht Hr N D P mn 0 0 (by omega) (fun j => by
    rw [b_0]
    constructor
    · intro h; exact nomatch h
    · rintro ⟨a, b⟩; omega)
  exact ⟨set', S, fun post hp => ⟨mn + 1, R post hp _ (by omega)⟩⟩
end
section
variable {g_made g_blocks g_arrivals g_tip g_chainLength : Int32} {b_op b_arg b_length b_ins b_inCoin b_inA b_inB b_outs b_amount b_lock b_parent b_work b_rewardLock b_height b_many b_holds b_delivered b_arrived b_chain b_from b_worth b_within b_spent b_stack b_again b_chosen : Nat → Int32} {oP tk ic ni nu sc rs nh hd pa he : Nat → Nat} {md bk : Nat} {mn : Nat} {row : Nat → Nat} {rb : Nat → Int32}
theorem yy_t142 {post : Int32 → SY → Prop} {t : Nat} {set : Int32} (h12 : mn ≤ 12)
    (k5 : kp_cc set mn 0 0 = 12 → post (-5) (g_made, g_blocks, g_arrivals, g_tip, nI (kp_cc set mn 0 0), g_chainLength, b_op, b_arg, b_length, b_ins, b_inCoin, b_inA, b_inB, b_outs, b_amount, b_lock, b_parent, b_work, b_rewardLock, b_height, b_many, b_holds, b_delivered, b_arrived, kp_ca set mn 0 0 rb, b_chain, b_from, b_worth, b_within, b_spent, b_stack, b_again, b_chosen))
    (k1 : kp_cc set mn 0 0 < 12 → post (nI (kp_cc set mn 0 0 + 1)) (g_made, g_blocks, g_arrivals, g_tip, nI (kp_cc set mn 0 0 + 1), g_chainLength, b_op, b_arg, b_length, b_ins, b_inCoin, b_inA, b_inB, b_outs, b_amount, b_lock, b_parent, b_work, b_rewardLock, b_height, b_many, b_holds, b_delivered, b_arrived, upd (kp_ca set mn 0 0 rb) (kp_cc set mn 0 0) (nI t), b_chain, b_from, b_worth, b_within, b_spent, b_stack, b_again, b_chosen)) :
    ∀ (m k nn : Nat) (ra : Nat → Int32) (n : Nat), k + m = mn → nn ≤ k → kp_cc set m k nn = kp_cc set mn 0 0 → kp_ca set m k nn ra = kp_ca set mn 0 0 rb → m < n → wY_take_142 post (nI t) set g_made g_blocks g_arrivals g_tip (nI mn) g_chainLength n (nI nn) (nI k) b_op b_arg b_length b_ins b_inCoin b_inA b_inB b_outs b_amount b_lock b_parent b_work b_rewardLock b_height b_many b_holds b_delivered b_arrived ra b_chain b_from b_worth b_within b_spent b_stack b_again b_chosen := by
  intro m
  induction m with
  | zero =>
    intro k nn ra n e hk e1 e2 hn
    obtain ⟨n, rfl⟩ : ∃ n', n = n' + 1 := ⟨n - 1, by omega⟩
    have e1 : nn = kp_cc set mn 0 0 := e1
    have e2 : ra = kp_ca set mn 0 0 rb := e2
    rw [← e1, ← e2] at k5 k1
    exact pk_le mn k (fun _ => pk_eq nn 12 (fun z => k5 z) (fun z => And.intro (pk_in nn 12 (by omega)) (nm_r (kn_ux nn) (nm_r (nI_1 nn) (k1 (by omega)))))) (fun z => by omega)
  | succ m ih =>
    intro k nn ra n e hk e1 e2 hn
    obtain ⟨n, rfl⟩ : ∃ n', n = n' + 1 := ⟨n - 1, by omega⟩
    refine pk_le mn k (fun z => by omega) (fun _ => ?_)
    cases b : bt set k with
    | true =>
      have f1 : kp_cc set (m + 1) k nn = kp_cc set m (k + 1) nn := if_pos b
      have f2 : kp_ca set (m + 1) k nn ra = kp_ca set m (k + 1) nn ra := if_pos b
      exact br_t ((kq_s1 (by omega) set).mpr b) (nm_r (nI_1 k) (ih (k + 1) nn ra n (by omega) (by omega) (f1.symm.trans e1) (f2.symm.trans e2) (by omega)))
    | false =>
      have nb := kq_f.mp b
      have f1 : kp_cc set (m + 1) k nn = kp_cc set m (k + 1) (nn + 1) := if_neg nb
      have f2 : kp_ca set (m + 1) k nn ra = kp_ca set m (k + 1) (nn + 1) (upd ra nn (ra k)) := if_neg nb
      exact br_f (fun q => by rw [kq_s1 (by omega) set, b] at q; exact nomatch q) (And.intro (pk_in k 12 (by omega)) (And.intro (pk_in nn 12 (by omega)) (nm_r (e' := upd ra nn (ra k)) (by rw [nI_clamp (show k < 2 ^ 31 by omega), kn_ux nn]) (nm_r (nI_1 nn) (nm_r (nI_1 k) (ih (k + 1) (nn + 1) _ n (by omega) (by omega) (f1.symm.trans e1) (f2.symm.trans e2) (by omega)))))))
end
section
variable {g_made g_blocks g_arrivals g_tip g_chainLength : Int32} {b_op b_arg b_length b_ins b_inCoin b_inA b_inB b_outs b_amount b_lock b_parent b_work b_rewardLock b_height b_many b_holds b_delivered b_arrived b_chain b_from b_worth b_within b_spent b_stack b_again b_chosen : Nat → Int32} {oP tk ic ni nu sc rs nh hd pa he : Nat → Nat} {md bk : Nat} {mn : Nat} {row : Nat → Nat} {rb : Nat → Int32}
theorem yy_t54 {post : Int32 → SY → Prop} {t : Nat} {rep set own : Int32} {fs : Nat → Int32} (ht : t < 40) (h12 : mn ≤ 12) (Hr : kn_H rb row 40) (D : ky_D b_op b_arg b_length b_inCoin b_ins b_outs b_lock b_rewardLock b_many b_holds b_parent b_height oP tk ic ni nu sc rs nh hd pa he)
    (hf : ∀ k, k < mn → fs k = kc_fee ic ni nu b_amount (row k) (kc_av b_amount (fun b => b_worth (120 + b)))) (ho : own = kc_fee ic ni nu b_amount t (kc_av b_amount (fun b => b_worth (120 + b))))
    (hz : ∀ j, bt set j = true → j < mn)
    (k3 : (∃ j, j < mn ∧ bt set j = true ∧ kp_nd ic ni t (row j)) → post (-3) (g_made, g_blocks, g_arrivals, g_tip, nI mn, g_chainLength, b_op, b_arg, b_length, b_ins, b_inCoin, b_inA, b_inB, b_outs, b_amount, b_lock, b_parent, b_work, b_rewardLock, b_height, b_many, b_holds, b_delivered, b_arrived, rb, b_chain, b_from, b_worth, b_within, b_spent, b_stack, b_again, b_chosen))
    (k4 : (∀ j, j < mn → bt set j = true → ¬ kp_nd ic ni t (row j)) → ¬ set = 0 → (rep = 0 ∨ ¬ kp_fs set fs mn 0 0 < own) → post (-4) (g_made, g_blocks, g_arrivals, g_tip, nI mn, g_chainLength, b_op, b_arg, b_length, b_ins, b_inCoin, b_inA, b_inB, b_outs, b_amount, b_lock, b_parent, b_work, b_rewardLock, b_height, b_many, b_holds, b_delivered, b_arrived, rb, b_chain, b_from, b_worth, b_within, b_spent, b_stack, b_again, b_chosen))
    (k5 : (∀ j, j < mn → bt set j = true → ¬ kp_nd ic ni t (row j)) → (set = 0 ∨ (¬ rep = 0 ∧ kp_fs set fs mn 0 0 < own)) → kp_cc set mn 0 0 = 12 → post (-5) (g_made, g_blocks, g_arrivals, g_tip, nI (kp_cc set mn 0 0), g_chainLength, b_op, b_arg, b_length, b_ins, b_inCoin, b_inA, b_inB, b_outs, b_amount, b_lock, b_parent, b_work, b_rewardLock, b_height, b_many, b_holds, b_delivered, b_arrived, kp_ca set mn 0 0 rb, b_chain, b_from, b_worth, b_within, b_spent, b_stack, b_again, b_chosen))
    (k1 : (∀ j, j < mn → bt set j = true → ¬ kp_nd ic ni t (row j)) → (set = 0 ∨ (¬ rep = 0 ∧ kp_fs set fs mn 0 0 < own)) → kp_cc set mn 0 0 < 12 → post (nI (kp_cc set mn 0 0 + 1)) (g_made, g_blocks, g_arrivals, g_tip, nI (kp_cc set mn 0 0 + 1), g_chainLength, b_op, b_arg, b_length, b_ins, b_inCoin, b_inA, b_inB, b_outs, b_amount, b_lock, b_parent, b_work, b_rewardLock, b_height, b_many, b_holds, b_delivered, b_arrived, upd (kp_ca set mn 0 0 rb) (kp_cc set mn 0 0) (nI t), b_chain, b_from, b_worth, b_within, b_spent, b_stack, b_again, b_chosen)) :
    ∀ (m k : Nat) (a : Int32) (n : Nat), k + m = mn → kp_fs set fs m k a = kp_fs set fs mn 0 0 → (∀ j, j < k → bt set j = true → ¬ kp_nd ic ni t (row j)) → m < n → wY_take_54 post (nI t) rep set g_made g_blocks g_arrivals g_tip (nI mn) g_chainLength b_op b_arg b_length b_ins b_inCoin b_inA b_inB b_outs b_amount b_lock b_parent b_work b_rewardLock b_height b_many b_holds b_delivered b_arrived rb b_chain b_from b_worth b_within b_spent b_stack b_again b_chosen n a (nI k) := by
  intro m
  induction m with
  | zero =>
    intro k a n e ea M hn
    obtain ⟨n, rfl⟩ : ∃ n', n = n' + 1 := ⟨n - 1, by omega⟩
    have ea : a = kp_fs set fs mn 0 0 := ea
    have nn : ∀ j, j < mn → bt set j = true → ¬ kp_nd ic ni t (row j) := fun j hj => M j (by omega)
    have ins : (set = 0 ∨ (¬ rep = 0 ∧ kp_fs set fs mn 0 0 < own)) → ∃ n142 : Nat, wY_take_142 post (nI t) set g_made g_blocks g_arrivals g_tip (nI mn) g_chainLength n142 0 0 b_op b_arg b_length b_ins b_inCoin b_inA b_inB b_outs b_amount b_lock b_parent b_work b_rewardLock b_height b_many b_holds b_delivered b_arrived rb b_chain b_from b_worth b_within b_spent b_stack b_again b_chosen := fun q =>
      ⟨mn + 1, yy_t142 h12 (fun z => k5 nn q z) (fun z => k1 nn q z) mn 0 0 rb _ (by omega) (by omega) rfl rfl (by omega)⟩
    refine pk_le mn k (fun _ => br_c (fun z => ins (Or.inl z)) (fun z => br_c (fun y => k4 nn z (Or.inl y)) (fun y => yy_feeOf ht D ?_))) (fun z => by omega)
    rw [← ho, ea]
    exact br_c (fun w => ins (Or.inr ⟨y, w⟩)) (fun w => k4 nn z (Or.inr w))
  | succ m ih =>
    intro k a n e ea M hn
    obtain ⟨n, rfl⟩ : ∃ n', n = n' + 1 := ⟨n - 1, by omega⟩
    have ea : kp_fs set fs m (k + 1) (if bt set k = true then a + fs k else a) = kp_fs set fs mn 0 0 := ea
    have rl := kn_l Hr k
    refine pk_le mn k (fun z => by omega) (fun _ => ?_)
    cases b : bt set k with
    | false =>
      rw [if_neg (kq_f.mp b)] at ea
      refine br_t ((kq_s0 (by omega) set).mpr b) (nm_r (nI_1 k) (ih (k + 1) a n (by omega) ea (fun j hj hb => ?_) (by omega)))
      by_cases y : j = k
      · subst y; rw [b] at hb; exact nomatch hb
      · exact M j (by omega) hb
    | true =>
      rw [if_pos b] at ea
      refine br_f (fun y => by rw [kq_s0 (by omega) set, b] at y; exact nomatch y) (And.intro (pk_in k 12 (by omega)) ?_)
      rw [kn_at Hr k]
      refine yy_needs ht rl D (fun q => br_f kn_10 (k3 ⟨k, by omega, b, q⟩)) (fun q => br_t rfl (And.intro (pk_in k 12 (by omega)) (yy_feeOf rl D (nm_r (e' := a + fs k) (by rw [hf k (by omega)]) (nm_r (nI_1 k) (ih (k + 1) _ n (by omega) ea (fun j hj hb => ?_) (by omega)))))))
      by_cases y : j = k
      · subst y; exact q
      · exact M j (by omega) hb
end
section
variable {g_blocks g_arrivals g_chainLength : Int32} {b_op b_arg b_length b_ins b_inCoin b_inA b_inB b_outs b_amount b_lock b_parent b_work b_rewardLock b_height b_many b_holds b_delivered b_arrived b_chain b_worth b_again b_chosen : Nat → Int32} {oP tk ic ni nu sc rs nh hd pa he : Nat → Nat} {md bk : Nat} {mn tip : Nat} {row : Nat → Nat} {rb : Nat → Int32} {K : kc_K}
theorem yy_isLate {t : Nat} {st : Nat → Int32} (hm : t < md) (htip : tip < bk) (N : kd_N oP tk ic ni nu sc rs nh hd pa he md bk) (D : ky_D b_op b_arg b_length b_inCoin b_ins b_outs b_lock b_rewardLock b_many b_holds b_parent b_height oP tk ic ni nu sc rs nh hd pa he) (I : kc_I he (he tip + 1) K) (Hr : kn_H rb row 40) (P : kp_P ic ni md K row mn) :
    ∃ st', (kp_okS ic ni nu b_amount (kf_fit oP b_arg tk ic b_inA b_inB sc rs) row mn t (he tip + 1) K (kc_av b_amount (fun b => b_worth (120 + b))) → ∀ post : Int32 → SY → Prop, post 0 (nI md, g_blocks, g_arrivals, nI tip, nI mn, g_chainLength, b_op, b_arg, b_length, b_ins, b_inCoin, b_inA, b_inB, b_outs, b_amount, b_lock, b_parent, b_work, b_rewardLock, b_height, b_many, b_holds, b_delivered, b_arrived, rb, b_chain, K.1, b_worth, K.2.2.1, K.2.1, st', b_again, b_chosen) → wpY_isLate post (nI md, g_blocks, g_arrivals, nI tip, nI mn, g_chainLength, b_op, b_arg, b_length, b_ins, b_inCoin, b_inA, b_inB, b_outs, b_amount, b_lock, b_parent, b_work, b_rewardLock, b_height, b_many, b_holds, b_delivered, b_arrived, rb, b_chain, K.1, b_worth, K.2.2.1, K.2.1, st, b_again, b_chosen) (nI t)) ∧
    (¬ kp_okS ic ni nu b_amount (kf_fit oP b_arg tk ic b_inA b_inB sc rs) row mn t (he tip + 1) K (kc_av b_amount (fun b => b_worth (120 + b))) → ∀ post : Int32 → SY → Prop, post 1 (nI md, g_blocks, g_arrivals, nI tip, nI mn, g_chainLength, b_op, b_arg, b_length, b_ins, b_inCoin, b_inA, b_inB, b_outs, b_amount, b_lock, b_parent, b_work, b_rewardLock, b_height, b_many, b_holds, b_delivered, b_arrived, rb, b_chain, K.1, b_worth, K.2.2.1, K.2.1, st', b_again, b_chosen) → wpY_isLate post (nI md, g_blocks, g_arrivals, nI tip, nI mn, g_chainLength, b_op, b_arg, b_length, b_ins, b_inCoin, b_inA, b_inB, b_outs, b_amount, b_lock, b_parent, b_work, b_rewardLock, b_height, b_many, b_holds, b_delivered, b_arrived, rb, b_chain, K.1, b_worth, K.2.2.1, K.2.1, st, b_again, b_chosen) (nI t)) := by
  have b32 := kd_bk N
  have h32 := kc_T_l (kd_T N) htip
  obtain ⟨st', R1, R0⟩ := yy_l16 (g_made := nI md) (g_blocks := g_blocks) (g_arrivals := g_arrivals) (g_tip := nI tip) (g_chainLength := g_chainLength) (b_op := b_op) (b_arg := b_arg) (b_length := b_length) (b_ins := b_ins) (b_inCoin := b_inCoin) (b_inA := b_inA) (b_inB := b_inB) (b_outs := b_outs) (b_amount := b_amount) (b_lock := b_lock) (b_parent := b_parent) (b_work := b_work) (b_rewardLock := b_rewardLock) (b_height := b_height) (b_many := b_many) (b_holds := b_holds) (b_delivered := b_delivered) (b_arrived := b_arrived) (b_pool := rb) (b_chain := b_chain) (b_worth := b_worth) (b_again := b_again) (b_chosen := b_chosen) hm (show he tip + 1 < 100 by omega) N D I Hr P (ni t) (3 * t) st rfl (Nat.le_refl _)
  have opn : ∀ post : Int32 → SY → Prop, (∃ n, wY_isLate_16 post (nI t) (nI (he tip + 1)) n (nI (3 * t)) (nI md) g_blocks g_arrivals (nI tip) (nI mn) g_chainLength b_op b_arg b_length b_ins b_inCoin b_inA b_inB b_outs b_amount b_lock b_parent b_work b_rewardLock b_height b_many b_holds b_delivered b_arrived rb b_chain K.1 b_worth K.2.2.1 K.2.1 st b_again b_chosen) → wpY_isLate post (nI md, g_blocks, g_arrivals, nI tip, nI mn, g_chainLength, b_op, b_arg, b_length, b_ins, b_inCoin, b_inA, b_inB, b_outs, b_amount, b_lock, b_parent, b_work, b_rewardLock, b_height, b_many, b_holds, b_delivered, b_arrived, rb, b_chain, K.1, b_worth, K.2.2.1, K.2.1, st, b_again, b_chosen) (nI t) := by
    intro post W
    exact And.intro (pk_in tip 33 (by omega)) (nm_r (e' := nI (he tip + 1)) (by rw [kn_at (dy_he D) tip, nI_1]) (nm_r (kn_m3 t) W))
  by_cases o : ∀ i, 3 * t ≤ i → i < 3 * t + ni t → kp_ok1 ic (kf_fit oP b_arg tk ic b_inA b_inB sc rs) row mn (he tip + 1) K.1 K.2.1 i
  · exact ⟨st', fun ok post hp => opn post ⟨ni t + 1, R1 o post (fun _ => hp) (fun q => absurd ok.2 q) _ (by omega)⟩, fun nok post hp => opn post ⟨ni t + 1, R1 o post (fun q => absurd ⟨o, q⟩ nok) (fun _ => hp) _ (by omega)⟩⟩
  · exact ⟨st', fun ok => absurd ok.1 o, fun _ post hp => opn post ⟨ni t + 1, R0 o post hp _ (by omega)⟩⟩
theorem yy_tk_ref {post : Int32 → SY → Prop} {rep v : Int32} {st : Nat → Int32} (N : kd_N oP tk ic ni nu sc rs nh hd pa he md bk) (Hr : kn_H rb row 40) (P12 : mn ≤ 12)
    (h : v < 0 ∨ nI md ≤ v ∨ ∃ t, t < md ∧ v = nI t ∧ (¬ K.2.2.1 t < 0 ∨ ∃ k, k < mn ∧ row k = t)) (hp : post (-2) (nI md, g_blocks, g_arrivals, nI tip, nI mn, g_chainLength, b_op, b_arg, b_length, b_ins, b_inCoin, b_inA, b_inB, b_outs, b_amount, b_lock, b_parent, b_work, b_rewardLock, b_height, b_many, b_holds, b_delivered, b_arrived, rb, b_chain, K.1, b_worth, K.2.2.1, K.2.1, st, b_again, b_chosen)) : wpY_take post (nI md, g_blocks, g_arrivals, nI tip, nI mn, g_chainLength, b_op, b_arg, b_length, b_ins, b_inCoin, b_inA, b_inB, b_outs, b_amount, b_lock, b_parent, b_work, b_rewardLock, b_height, b_many, b_holds, b_delivered, b_arrived, rb, b_chain, K.1, b_worth, K.2.2.1, K.2.1, st, b_again, b_chosen) v rep := by
  have m40 := kd_md N
  unfold wpY_take
  by_cases z : v < 0 ∨ nI md ≤ v
  · refine yy_in0 z ?_
    exact br_t rfl hp
  · rcases h with q | q | ⟨t, ht, rfl, q⟩
    · exact absurd (Or.inl q) z
    · exact absurd (Or.inr q) z
    · refine yy_in1 ht (by omega) ?_
      refine br_f kn_10 (And.intro (pk_in t 40 (by omega)) ?_)
      rw [nI_clamp (by omega)]
      by_cases y : K.2.2.1 t < 0
      · refine br_f (Int32.not_le.mpr y) (yy_isPooled (by omega) P12 Hr (fun _ => br_f kn_10 hp) (fun w => ?_))
        rcases q with q | ⟨k, hk, ek⟩
        · exact absurd y q
        · exact absurd ek (w k hk)
      · exact br_t (Int32.not_lt.mp y) hp
theorem yy_tk {t : Nat} {rep own : Int32} {st fs : Nat → Int32} (ht : t < md) (htip : tip < bk) (N : kd_N oP tk ic ni nu sc rs nh hd pa he md bk) (D : ky_D b_op b_arg b_length b_inCoin b_ins b_outs b_lock b_rewardLock b_many b_holds b_parent b_height oP tk ic ni nu sc rs nh hd pa he) (I : kc_I he (he tip + 1) K) (Hr : kn_H rb row 40) (P : kp_P ic ni md K row mn)
    (hw : K.2.2.1 t < 0) (hn : ∀ k, k < mn → row k ≠ t)
    (hf : ∀ k, k < mn → fs k = kc_fee ic ni nu b_amount (row k) (kc_av b_amount (fun b => b_worth (120 + b)))) (ho : own = kc_fee ic ni nu b_amount t (kc_av b_amount (fun b => b_worth (120 + b)))) :
    ∃ set st', kp_S ic ni row mn t set ∧
    (¬ kp_okS ic ni nu b_amount (kf_fit oP b_arg tk ic b_inA b_inB sc rs) row mn t (he tip + 1) K (kc_av b_amount (fun b => b_worth (120 + b))) → ∀ post : Int32 → SY → Prop, post (-3) (nI md, g_blocks, g_arrivals, nI tip, nI mn, g_chainLength, b_op, b_arg, b_length, b_ins, b_inCoin, b_inA, b_inB, b_outs, b_amount, b_lock, b_parent, b_work, b_rewardLock, b_height, b_many, b_holds, b_delivered, b_arrived, rb, b_chain, K.1, b_worth, K.2.2.1, K.2.1, st', b_again, b_chosen) → wpY_take post (nI md, g_blocks, g_arrivals, nI tip, nI mn, g_chainLength, b_op, b_arg, b_length, b_ins, b_inCoin, b_inA, b_inB, b_outs, b_amount, b_lock, b_parent, b_work, b_rewardLock, b_height, b_many, b_holds, b_delivered, b_arrived, rb, b_chain, K.1, b_worth, K.2.2.1, K.2.1, st, b_again, b_chosen) (nI t) rep) ∧
    (kp_okS ic ni nu b_amount (kf_fit oP b_arg tk ic b_inA b_inB sc rs) row mn t (he tip + 1) K (kc_av b_amount (fun b => b_worth (120 + b))) → ∀ post : Int32 → SY → Prop,
      ((∃ j, j < mn ∧ bt set j = true ∧ kp_nd ic ni t (row j)) → post (-3) (nI md, g_blocks, g_arrivals, nI tip, nI mn, g_chainLength, b_op, b_arg, b_length, b_ins, b_inCoin, b_inA, b_inB, b_outs, b_amount, b_lock, b_parent, b_work, b_rewardLock, b_height, b_many, b_holds, b_delivered, b_arrived, rb, b_chain, K.1, b_worth, K.2.2.1, K.2.1, st', b_again, b_chosen)) →
      ((∀ j, j < mn → bt set j = true → ¬ kp_nd ic ni t (row j)) → ¬ set = 0 → (rep = 0 ∨ ¬ kp_fs set fs mn 0 0 < own) → post (-4) (nI md, g_blocks, g_arrivals, nI tip, nI mn, g_chainLength, b_op, b_arg, b_length, b_ins, b_inCoin, b_inA, b_inB, b_outs, b_amount, b_lock, b_parent, b_work, b_rewardLock, b_height, b_many, b_holds, b_delivered, b_arrived, rb, b_chain, K.1, b_worth, K.2.2.1, K.2.1, st', b_again, b_chosen)) →
      ((∀ j, j < mn → bt set j = true → ¬ kp_nd ic ni t (row j)) → (set = 0 ∨ (¬ rep = 0 ∧ kp_fs set fs mn 0 0 < own)) → kp_cc set mn 0 0 = 12 → post (-5) (nI md, g_blocks, g_arrivals, nI tip, nI (kp_cc set mn 0 0), g_chainLength, b_op, b_arg, b_length, b_ins, b_inCoin, b_inA, b_inB, b_outs, b_amount, b_lock, b_parent, b_work, b_rewardLock, b_height, b_many, b_holds, b_delivered, b_arrived, kp_ca set mn 0 0 rb, b_chain, K.1, b_worth, K.2.2.1, K.2.1, st', b_again, b_chosen)) →
      ((∀ j, j < mn → bt set j = true → ¬ kp_nd ic ni t (row j)) → (set = 0 ∨ (¬ rep = 0 ∧ kp_fs set fs mn 0 0 < own)) → kp_cc set mn 0 0 < 12 → post (nI (kp_cc set mn 0 0 + 1)) (nI md, g_blocks, g_arrivals, nI tip, nI (kp_cc set mn 0 0 + 1), g_chainLength, b_op, b_arg, b_length, b_ins, b_inCoin, b_inA, b_inB, b_outs, b_amount, b_lock, b_parent, b_work, b_rewardLock, b_height, b_many, b_holds, b_delivered, b_arrived, upd (kp_ca set mn 0 0 rb) (kp_cc set mn 0 0) (nI t), b_chain, K.1, b_worth, K.2.2.1, K.2.1, st', b_again, b_chosen)) →
      wpY_take post (nI md, g_blocks, g_arrivals, nI tip, nI mn, g_chainLength, b_op, b_arg, b_length, b_ins, b_inCoin, b_inA, b_inB, b_outs, b_amount, b_lock, b_parent, b_work, b_rewardLock, b_height, b_many, b_holds, b_delivered, b_arrived, rb, b_chain, K.1, b_worth, K.2.2.1, K.2.1, st, b_again, b_chosen) (nI t) rep) := by
  have m40 := kd_md N
  have p12 := P.1
  obtain ⟨st', S1, S0⟩ := yy_isLate (g_blocks := g_blocks) (g_arrivals := g_arrivals) (g_chainLength := g_chainLength) (b_op := b_op) (b_arg := b_arg) (b_length := b_length) (b_ins := b_ins) (b_inCoin := b_inCoin) (b_inA := b_inA) (b_inB := b_inB) (b_outs := b_outs) (b_amount := b_amount) (b_lock := b_lock) (b_parent := b_parent) (b_work := b_work) (b_rewardLock := b_rewardLock) (b_height := b_height) (b_many := b_many) (b_holds := b_holds) (b_delivered := b_delivered) (b_arrived := b_arrived) (b_chain := b_chain) (b_worth := b_worth) (b_again := b_again) (b_chosen := b_chosen) (st := st) ht htip N D I Hr P
  obtain ⟨set, S, R⟩ := yy_rivals (g_made := nI md) (g_blocks := g_blocks) (g_arrivals := g_arrivals) (g_tip := nI tip) (g_chainLength := g_chainLength) (b_op := b_op) (b_arg := b_arg) (b_length := b_length) (b_ins := b_ins) (b_inCoin := b_inCoin) (b_inA := b_inA) (b_inB := b_inB) (b_outs := b_outs) (b_amount := b_amount) (b_lock := b_lock) (b_parent := b_parent) (b_work := b_work) (b_rewardLock := b_rewardLock) (b_height := b_height) (b_many := b_many) (b_holds := b_holds) (b_delivered := b_delivered) (b_arrived := b_arrived) (b_pool := rb) (b_chain := b_chain) (b_from := K.1) (b_worth := b_worth) (b_within := K.2.2.1) (b_spent := K.2.1) (b_stack := st') (b_again := b_again) (b_chosen := b_chosen) ht Hr N D P
  have opn : ∀ post : Int32 → SY → Prop, wpY_isLate (fun r u => match u with | (g_made, g_blocks, g_arrivals, g_tip, g_pooled, g_chainLength, b_op, b_arg, b_length, b_ins, b_inCoin, b_inA, b_inB, b_outs, b_amount, b_lock, b_parent, b_work, b_rewardLock, b_height, b_many, b_holds, b_delivered, b_arrived, b_pool, b_chain, b_from, b_worth, b_within, b_spent, b_stack, b_again, b_chosen) => ((r = 0 → (wpY_rivals (fun r2 => ∃ n54 : Nat, wY_take_54 post (nI t) rep r2 g_made g_blocks g_arrivals g_tip g_pooled g_chainLength b_op b_arg b_length b_ins b_inCoin b_inA b_inB b_outs b_amount b_lock b_parent b_work b_rewardLock b_height b_many b_holds b_delivered b_arrived b_pool b_chain b_from b_worth b_within b_spent b_stack b_again b_chosen n54 0 0) (g_made, g_blocks, g_arrivals, g_tip, g_pooled, g_chainLength, b_op, b_arg, b_length, b_ins, b_inCoin, b_inA, b_inB, b_outs, b_amount, b_lock, b_parent, b_work, b_rewardLock, b_height, b_many, b_holds, b_delivered, b_arrived, b_pool, b_chain, b_from, b_worth, b_within, b_spent, b_stack, b_again, b_chosen) (nI t))) ∧ (¬ r = 0 → post (-3) (g_made, g_blocks, g_arrivals, g_tip, g_pooled, g_chainLength, b_op, b_arg, b_length, b_ins, b_inCoin, b_inA, b_inB, b_outs, b_amount, b_lock, b_parent, b_work, b_rewardLock, b_height, b_many, b_holds, b_delivered, b_arrived, b_pool, b_chain, b_from, b_worth, b_within, b_spent, b_stack, b_again, b_chosen)))) (nI md, g_blocks, g_arrivals, nI tip, nI mn, g_chainLength, b_op, b_arg, b_length, b_ins, b_inCoin, b_inA, b_inB, b_outs, b_amount, b_lock, b_parent, b_work, b_rewardLock, b_height, b_many, b_holds, b_delivered, b_arrived, rb, b_chain, K.1, b_worth, K.2.2.1, K.2.1, st, b_again, b_chosen) (nI t) → wpY_take post (nI md, g_blocks, g_arrivals, nI tip, nI mn, g_chainLength, b_op, b_arg, b_length, b_ins, b_inCoin, b_inA, b_inB, b_outs, b_amount, b_lock, b_parent, b_work, b_rewardLock, b_height, b_many, b_holds, b_delivered, b_arrived, rb, b_chain, K.1, b_worth, K.2.2.1, K.2.1, st, b_again, b_chosen) (nI t) rep := by
    intro post W
    unfold wpY_take
    refine yy_in1 ht (by omega) ?_
    refine br_f kn_10 (And.intro (pk_in t 40 (by omega)) ?_)
    rw [nI_clamp (by omega)]
    exact br_f (Int32.not_le.mpr hw) (yy_isPooled (by omega) p12 Hr (fun q => by obtain ⟨k, hk, ek⟩ := q; exact absurd ek (hn k hk)) (fun _ => br_t rfl W))
  refine ⟨set, st', S, fun no post hp => opn post (S0 no _ (br_f kn_10 hp)), fun ok post k3 k4 k5 k1 => ?_⟩
  exact opn post (S1 ok _ (br_t rfl (R _ ⟨mn + 1, yy_t54 (by omega) p12 Hr D hf ho (fun j hj => ((S j).mp hj).1) k3 k4 k5 k1 mn 0 0 _ (by omega) rfl (fun j hj => by omega) (by omega)⟩)))
end
end
section
/-! ===== both: a transaction comes to the pool ===== -/
theorem kp_fee_eq {ic ni nu hd : Nat → Nat} {am rw w : Nat → Int32} {K : kc_K} {t : Nat} (D : kc_D ic ni nu hd) (h : ∀ i, 3 * t ≤ i → i < 3 * t + ni t → ic i < 120 ∨ ¬ K.1 (ic i) < 0) (A : kc_A K (kc_av am rw)) (B : kc_A K w) : kc_fee ic ni nu am t (kc_av am rw) = kc_fee ic ni nu am t (kc_av am (fun b => w (120 + b))) := by
  unfold kc_fee
  rw [kc_sum_cg (g' := fun i => kc_av am (fun b => w (120 + b)) (ic i)) _ _ _ (fun j h1 h2 => ?_)]
  by_cases z : ic j < 120
  · unfold kc_av; rw [if_pos z, if_pos z]
  · have f := (h j h1 h2).resolve_left z
    rw [A _ (D.1 j) f]
    unfold kc_av; rw [if_neg z]
    dsimp only
    rw [show 120 + (ic j - 120) = ic j by omega, B _ (D.1 j) f]
/-- Y's arrays where they are X's -/
theorem dx_dy {a_op a_number a_tokens a_timed a_inCoin a_ins a_outs a_script a_rewardScript a_holds a_held a_parent a_height b_parent : Nat → Int32} {oP tk ic ni nu sc rs nh hd pa he : Nat → Nat} (D : kx_D a_op a_number a_tokens a_timed a_inCoin a_ins a_outs a_script a_rewardScript a_holds a_held a_parent a_height oP tk ic ni nu sc rs nh hd pa he) (h0 : b_parent 0 = -1) (h1 : ∀ i, 0 < i → b_parent i = a_parent i) :
    ky_D a_op a_number a_tokens a_inCoin a_ins a_outs a_script a_rewardScript a_holds a_held b_parent a_height oP tk ic ni nu sc rs nh hd pa he :=
  ⟨dx_op D, dx_sk D, dx_tk D, dx_ic D, dx_ni D, dx_nu D, dx_sc D, dx_rs D, dx_nh D, dx_hd D, ⟨h0, fun i hi => ⟨by rw [h1 i hi]; exact (dx_pa D i).1, (dx_pa D i).2⟩⟩, dx_he D⟩
section
variable {f_arrivals f_agains : Int32} {a_op a_number a_tokens a_used a_timed a_inCoin a_inA a_inB a_ins a_amount a_script a_outs a_parent a_height a_work a_holds a_held a_rewardScript a_delivered a_arrival a_again a_before : Nat → Int32} {g_arrivals : Int32} {b_parent b_work b_arrived : Nat → Int32} {oP tk ic ni nu sc rs nh hd pa he : Nat → Nat} {md bk : Nat} {K : kc_K} {mn tp tip : Nat} {row : Nat → Nat} {rw rg wr cn ra fs tr w yc ya yo : Nat → Int32} {cl : Int32}
theorem zz_step {v rep fe : Int32} {st fi ys : Nat → Int32} (htip : tip < bk) (et : he tip = tp) (N : kd_N oP tk ic ni nu sc rs nh hd pa he md bk) (D : kx_D a_op a_number a_tokens a_timed a_inCoin a_ins a_outs a_script a_rewardScript a_holds a_held a_parent a_height oP tk ic ni nu sc rs nh hd pa he) (DY : ky_D a_op a_number a_tokens a_inCoin a_ins a_outs a_script a_rewardScript a_holds a_held b_parent a_height oP tk ic ni nu sc rs nh hd pa he) (I : kc_I he (tp + 1) K) (Hr : kn_H ra row 40) (P : kp_P ic ni md K row mn) (X : kp_X ic ni nu a_amount rw row mn fs tr) (C : kf_C md ni a_timed (fun i => kx_s sc rs (ic i)) (kf_fit oP a_number tk ic a_inA a_inB sc rs) fi)
    (A : kc_A K (kc_av a_amount rw)) (B : kc_A K w) :
    ∃ r mn' row' fe' st' fi' ra' fs' tr' ys', kf_C md ni a_timed (fun i => kx_s sc rs (ic i)) (kf_fit oP a_number tk ic a_inA a_inB sc rs) fi' ∧ kn_H ra' row' 40 ∧ kp_P ic ni md K row' mn' ∧ kp_X ic ni nu a_amount rw row' mn' fs' tr' ∧
    (∀ post : Int32 → SX → Prop, post r (nI md, nI bk, f_arrivals, nI tp, nI mn', f_agains, fe', a_op, a_number, a_tokens, a_used, a_timed, st', a_inCoin, a_inA, a_inB, a_ins, a_amount, a_script, a_outs, fi', a_parent, a_height, a_work, a_holds, a_held, a_rewardScript, rw, a_delivered, a_arrival, rg, wr, cn, K.1, K.2.1, K.2.2.1, ra', fs', tr', a_again, a_before) → wpX_enter post (nI md, nI bk, f_arrivals, nI tp, nI mn, f_agains, fe, a_op, a_number, a_tokens, a_used, a_timed, st, a_inCoin, a_inA, a_inB, a_ins, a_amount, a_script, a_outs, fi, a_parent, a_height, a_work, a_holds, a_held, a_rewardScript, rw, a_delivered, a_arrival, rg, wr, cn, K.1, K.2.1, K.2.2.1, ra, fs, tr, a_again, a_before) v rep) ∧ (∀ post : Int32 → SY → Prop, post r (nI md, nI bk, g_arrivals, nI tip, nI mn', cl, a_op, a_number, a_tokens, a_ins, a_inCoin, a_inA, a_inB, a_outs, a_amount, a_script, b_parent, b_work, a_rewardScript, a_height, a_holds, a_held, a_delivered, b_arrived, ra', yc, K.1, w, K.2.2.1, K.2.1, ys', ya, yo) → wpY_take post (nI md, nI bk, g_arrivals, nI tip, nI mn, cl, a_op, a_number, a_tokens, a_ins, a_inCoin, a_inA, a_inB, a_outs, a_amount, a_script, b_parent, b_work, a_rewardScript, a_height, a_holds, a_held, a_delivered, b_arrived, ra, yc, K.1, w, K.2.2.1, K.2.1, ys, ya, yo) v rep) := by
  have m40 := kd_md N
  have h32 := kc_T_l (kd_T N) htip
  by_cases ref : v < 0 ∨ nI md ≤ v ∨ ∃ t, t < md ∧ v = nI t ∧ (¬ K.2.2.1 t < 0 ∨ ∃ k, k < mn ∧ row k = t)
  · exact ⟨-2, mn, row, fe, st, fi, ra, fs, tr, ys, C, Hr, P, X, fun post hp => xx_en_ref N Hr P.1 ref hp, fun post hp => yy_tk_ref N Hr P.1 ref hp⟩
  · obtain ⟨t, ht, rfl⟩ : ∃ t, t < md ∧ v = nI t := by
      rcases pk_ix v (n := md) (by omega) with q | q | q
      · exact absurd (Or.inl q) ref
      · exact absurd (Or.inr (Or.inl q)) ref
      · exact q
    have hw : K.2.2.1 t < 0 := by
      apply Classical.byContradiction
      intro q; exact ref (Or.inr (Or.inr ⟨t, ht, rfl, Or.inl q⟩))
    have hn : ∀ k, k < mn → row k ≠ t := fun k hk q => ref (Or.inr (Or.inr ⟨t, ht, rfl, Or.inr ⟨k, hk, q⟩⟩))
    have hw1 : K.2.2.1 t = -1 := (kc_wneg I (by omega) (by omega)).mp hw
    have hf : ∀ k, k < mn → fs k = kc_fee ic ni nu a_amount (row k) (kc_av a_amount (fun b => w (120 + b))) := fun k hk => by
      rw [X.1 k hk]
      refine kp_fee_eq (kd_D N) (fun i h1 h2 => ?_) A B
      rcases P.2.2.2.1 k hk i h1 h2 with q | q
      · exact Or.inr q
      · exact Or.inl q.1
    have fq : (∀ i, 3 * t ≤ i → i < 3 * t + ni t → kp_ok1 ic (kf_fit oP a_number tk ic a_inA a_inB sc rs) row mn (tp + 1) K.1 K.2.1 i) → kc_fee ic ni nu a_amount t (kc_av a_amount rw) = kc_fee ic ni nu a_amount t (kc_av a_amount (fun b => w (120 + b))) := fun o => by
      refine kp_fee_eq (kd_D N) (fun i h1 h2 => ?_) A B
      rcases o i h1 h2 with q | q
      · exact Or.inl q.1.1
      · exact Or.inr q.2.1
    have okq : kp_okS ic ni nu a_amount (kf_fit oP a_number tk ic a_inA a_inB sc rs) row mn t (tp + 1) K (kc_av a_amount rw) ↔ kp_okS ic ni nu a_amount (kf_fit oP a_number tk ic a_inA a_inB sc rs) row mn t (he tip + 1) K (kc_av a_amount (fun b => w (120 + b))) := by
      rw [et]
      constructor
      · exact fun o => ⟨o.1, by rw [← fq o.1]; exact o.2⟩
      · exact fun o => ⟨o.1, by rw [fq o.1]; exact o.2⟩
    obtain ⟨set, fe', st', fi', S, C', L1, G1⟩ := xx_en (f_blocks := nI bk) (f_arrivals := f_arrivals) (f_agains := f_agains) (a_op := a_op) (a_number := a_number) (a_tokens := a_tokens) (a_used := a_used) (a_timed := a_timed) (a_inCoin := a_inCoin) (a_inA := a_inA) (a_inB := a_inB) (a_ins := a_ins) (a_amount := a_amount) (a_script := a_script) (a_outs := a_outs) (a_parent := a_parent) (a_height := a_height) (a_work := a_work) (a_holds := a_holds) (a_held := a_held) (a_rewardScript := a_rewardScript) (a_reward := rw) (a_delivered := a_delivered) (a_arrival := a_arrival) (a_right := rg) (a_wrong := wr) (a_chain := cn) (a_again := a_again) (a_before := a_before) (fe := fe) (st := st) (rep := rep) ht (show tp + 1 < 100 by omega) N D I Hr P X C hw hn
    obtain ⟨set2, ys', S2, L2, G2⟩ := yy_tk (g_blocks := nI bk) (g_arrivals := g_arrivals) (g_chainLength := cl) (b_op := a_op) (b_arg := a_number) (b_length := a_tokens) (b_ins := a_ins) (b_inCoin := a_inCoin) (b_inA := a_inA) (b_inB := a_inB) (b_outs := a_outs) (b_amount := a_amount) (b_lock := a_script) (b_parent := b_parent) (b_work := b_work) (b_rewardLock := a_rewardScript) (b_height := a_height) (b_many := a_holds) (b_holds := a_held) (b_delivered := a_delivered) (b_arrived := b_arrived) (b_chain := yc) (b_worth := w) (b_again := ya) (b_chosen := yo) (st := ys) (rep := rep) (own := kc_fee ic ni nu a_amount t (kc_av a_amount (fun b => w (120 + b)))) (fs := fs) ht htip N DY (by rw [et]; exact I) Hr P hw hn hf rfl
    have es := kp_S_u S2 S
    subst es
    by_cases ok : kp_okS ic ni nu a_amount (kf_fit oP a_number tk ic a_inA a_inB sc rs) row mn t (tp + 1) K (kc_av a_amount rw)
    · have ok2 := okq.mp ok
      have fe1 := fq ok.1
      by_cases nd : ∃ j, j < mn ∧ bt set2 j = true ∧ kp_nd ic ni t (row j)
      · refine ⟨-3, mn, row, _, st', fi', ra, fs, tr, ys', C', Hr, P, X, fun post hp => G1 ok post (fun _ => hp) (fun q => ?_) (fun q => ?_) (fun q => ?_), fun post hp => G2 ok2 post (fun _ => hp) (fun q => ?_) (fun q => ?_) (fun q => ?_)⟩
        all_goals exact absurd nd (fun ⟨j, a, b, c⟩ => q j a b c)
      · by_cases ins : set2 = 0 ∨ (¬ rep = 0 ∧ kp_fs set2 fs mn 0 0 < kc_fee ic ni nu a_amount t (kc_av a_amount rw))
        · have nn : ∀ j, j < mn → bt set2 j = true → ¬ kp_nd ic ni t (row j) := fun j a b c => nd ⟨j, a, b, c⟩
          have ins2 := ins
          rw [fe1] at ins2
          have ex := kp_exp P S
          have exX := kp_expX P S X
          have ncheap : ∀ {o : Int32}, (set2 = 0 ∨ (¬ rep = 0 ∧ kp_fs set2 fs mn 0 0 < o)) → ¬ set2 = 0 → (rep = 0 ∨ ¬ kp_fs set2 fs mn 0 0 < o) → False := by
            intro o a b c
            rcases a with a | a
            · exact b a
            · rcases c with c | c
              · exact a.1 c
              · exact c a.2
          by_cases c12 : kp_cc set2 mn 0 0 = 12
          · refine ⟨-5, kp_cc set2 mn 0 0, kp_ca set2 mn 0 0 row, _, st', fi', kp_ca set2 mn 0 0 ra, kp_ca set2 mn 0 0 fs, kp_ct ic ni row set2 mn 0 tr, ys', C', kp_ca_H (a := ra) (f := row) mn 0 0 ra row Hr, ex.2.1, exX, fun post hp => G1 ok post (fun q => absurd q nd) (fun _ b c => (ncheap ins b c).elim) (fun _ _ _ => hp) (fun _ _ q => by omega), fun post hp => G2 ok2 post (fun q => absurd q nd) (fun _ b c => (ncheap ins2 b c).elim) (fun _ _ _ => hp) (fun _ _ q => by omega)⟩
          · have lt : kp_cc set2 mn 0 0 < 12 := by have := ex.2.1.1; omega
            have hs : ∀ k, k < kp_cc set2 mn 0 0 → ¬ kp_sh ic ni t (kp_ca set2 mn 0 0 row k) := fun k hk q => by
              obtain ⟨j, a, b, c, _⟩ := ex.2.2.1 k hk
              rw [c] at q
              have := (S j).mpr ⟨a, kp_R_b a q⟩
              rw [b] at this; exact nomatch this
            have hr : ∀ k, k < kp_cc set2 mn 0 0 → kp_ca set2 mn 0 0 row k ≠ t := fun k hk q => by
              obtain ⟨j, a, b, c, _⟩ := ex.2.2.1 k hk
              rw [c] at q; exact hn j a q
            have hin : ∀ i, 3 * t ≤ i → i < 3 * t + ni t → ¬ K.1 (ic i) < 0 ∨ (ic i < 120 ∧ ∃ j, j < kp_cc set2 mn 0 0 ∧ kp_ca set2 mn 0 0 row j = ic i / 3) := fun i h1 h2 => by
              rcases ok.1 i h1 h2 with q | q
              · obtain ⟨z, k, hk, ek⟩ := q.1
                have nb : bt set2 k = false := kq_f.mpr (fun b => nn k hk b ⟨i, h1, h2, z, ek.symm⟩)
                obtain ⟨j, a, b⟩ := ex.2.2.2 k hk nb
                exact Or.inr ⟨z, j, a, by rw [b]; exact ek⟩
              · exact Or.inl q.2.1
            exact ⟨nI (kp_cc set2 mn 0 0 + 1), kp_cc set2 mn 0 0 + 1, kn_u (kp_ca set2 mn 0 0 row) (kp_cc set2 mn 0 0) t, _, st', fi', upd (kp_ca set2 mn 0 0 ra) (kp_cc set2 mn 0 0) (nI t), upd (kp_ca set2 mn 0 0 fs) (kp_cc set2 mn 0 0) (kc_fee ic ni nu a_amount t (kc_av a_amount rw)), kc_sg ic (fun _ => nI t) (ni t) (3 * t) (kp_ct ic ni row set2 mn 0 tr), ys', C', kn_upd (kp_ca_H (a := ra) (f := row) mn 0 0 ra row Hr) rfl (by omega), kp_ins ex.2.1 lt ht hw1 hr hs hin, kp_insX exX hs, fun post hp => G1 ok post (fun q => absurd q nd) (fun _ b c => (ncheap ins b c).elim) (fun _ _ q => absurd q c12) (fun _ _ _ => hp), fun post hp => G2 ok2 post (fun q => absurd q nd) (fun _ b c => (ncheap ins2 b c).elim) (fun _ _ q => absurd q c12) (fun _ _ _ => hp)⟩
        · have ins2 := ins
          rw [fe1] at ins2
          exact ⟨-4, mn, row, _, st', fi', ra, fs, tr, ys', C', Hr, P, X, fun post hp => G1 ok post (fun q => absurd q nd) (fun _ _ _ => hp) (fun _ q => absurd q ins) (fun _ q => absurd q ins), fun post hp => G2 ok2 post (fun q => absurd q nd) (fun _ _ _ => hp) (fun _ q => absurd q ins2) (fun _ q => absurd q ins2)⟩
    · exact ⟨-3, mn, row, fe', st', fi', ra, fs, tr, ys', C', Hr, P, X, fun post hp => L1 ok post hp, fun post hp => L2 (fun q => ok (okq.mpr q)) post hp⟩
end
end
section
/-! ===== what is offered anew: the lists ===== -/
/-- an array holds a list from a place on -/
def kz_A (a : Nat → Int32) (k : Nat) (l : List Nat) : Prop := ∀ i, i < l.length → a (k + i) = nI (l.getD i 0)
theorem kz_snoc {a : Nat → Int32} {l : List Nat} {t : Nat} (h : kz_A a 0 l) : kz_A (upd a l.length (nI t)) 0 (l ++ [t]) := by
  intro i hi
  rw [List.length_append] at hi
  have hi : i < l.length + 1 := hi
  rw [Nat.zero_add]
  by_cases e : i = l.length
  · subst e; rw [pk_us]
    simp [List.getD_eq_getElem?_getD]
  · rw [pk_un e]
    have := h i (by omega)
    rw [Nat.zero_add] at this
    rw [this]
    simp [List.getD_eq_getElem?_getD, List.getElem?_append_left (show i < l.length by omega)]
theorem kz_hd {a : Nat → Int32} {k t : Nat} {l : List Nat} (h : kz_A a k (t :: l)) : a k = nI t := h 0 (by simp)
theorem kz_tl {a : Nat → Int32} {k t : Nat} {l : List Nat} (h : kz_A a k (t :: l)) : kz_A a (k + 1) l := by
  intro i hi
  have := h (i + 1) (by simp; omega)
  rw [show k + 1 + i = k + (i + 1) by omega, this]
  simp [List.getD_eq_getElem?_getD]
/-- the transactions of a block, of a chain -/
def kz_B (nh hd : Nat → Nat) (b : Nat) : Nat → List Nat
  | 0 => []
  | j + 1 => kz_B nh hd b j ++ [hd (4 * b + j)]
def kz_T (nh hd c : Nat → Nat) : Nat → List Nat
  | 0 => []
  | h + 1 => kz_T nh hd c h ++ kz_B nh hd (c h) (nh (c h))
def kz_R (row : Nat → Nat) : Nat → List Nat
  | 0 => []
  | k + 1 => kz_R row k ++ [row k]
theorem kz_B_l {nh hd : Nat → Nat} {b : Nat} : ∀ j, (kz_B nh hd b j).length = j
  | 0 => rfl
  | j + 1 => by rw [kz_B, List.length_append, kz_B_l j]; rfl
theorem kz_R_l {row : Nat → Nat} : ∀ k, (kz_R row k).length = k
  | 0 => rfl
  | k + 1 => by rw [kz_R, List.length_append, kz_R_l k]; rfl
theorem kz_T_s {nh hd c : Nat → Nat} {h : Nat} : (kz_T nh hd c (h + 1)).length = (kz_T nh hd c h).length + nh (c h) := by
  rw [kz_T, List.length_append, kz_B_l]
theorem kz_T_m {nh hd c : Nat → Nat} : ∀ (d h : Nat), (kz_T nh hd c h).length ≤ (kz_T nh hd c (h + d)).length
  | 0, h => Nat.le_refl _
  | d + 1, h => by rw [show h + (d + 1) = (h + d) + 1 by omega, kz_T_s]; have := kz_T_m (nh := nh) (hd := hd) (c := c) d h; omega
theorem kz_T_n {nh hd pa he c : Nat → Nat} {bk : Nat} : ∀ (H : Nat), kc_ch bk pa he c H → (kz_T nh hd c (H + 1)).length = kc_nt nh pa H (c H)
  | 0, _ => by rw [kz_T_s]; show 0 + nh (c 0) = nh (c 0); omega
  | H + 1, C => by
    rw [kz_T_s, kz_T_n H (kc_ch_d C (by omega))]
    show _ = kc_nt nh pa H (pa (c (H + 1))) + nh (c (H + 1))
    rw [C.2 H (by omega)]
theorem kz_T_cg {nh hd c c' : Nat → Nat} : ∀ (H : Nat), (∀ h, h < H → c h = c' h) → kz_T nh hd c H = kz_T nh hd c' H
  | 0, _ => rfl
  | H + 1, h => by rw [kz_T, kz_T, kz_T_cg H (fun x q => h x (by omega)), h H (by omega)]
theorem kz_B_a {nh hd : Nat → Nat} {b : Nat} {p : Nat → Prop} : ∀ j, (∀ i, i < j → p (hd (4 * b + i))) → ∀ t, t ∈ kz_B nh hd b j → p t
  | 0, _, t, h => by simp [kz_B] at h
  | j + 1, hp, t, h => by
    rw [kz_B, List.mem_append] at h
    rcases h with h | h
    · exact kz_B_a j (fun i q => hp i (by omega)) t h
    · have : t = hd (4 * b + j) := by simpa using h
      rw [this]; exact hp j (by omega)
theorem kz_T_a {nh hd c : Nat → Nat} {p : Nat → Prop} : ∀ H, (∀ h, h < H → ∀ i, i < nh (c h) → p (hd (4 * c h + i))) → ∀ t, t ∈ kz_T nh hd c H → p t
  | 0, _, t, h => by simp [kz_T] at h
  | H + 1, hp, t, h => by
    rw [kz_T, List.mem_append] at h
    rcases h with h | h
    · exact kz_T_a H (fun i q => hp i (by omega)) t h
    · exact kz_B_a _ (hp H (by omega)) t h
theorem kz_R_a {row : Nat → Nat} {p : Nat → Prop} : ∀ k, (∀ i, i < k → p (row i)) → ∀ t, t ∈ kz_R row k → p t
  | 0, _, t, h => by simp [kz_R] at h
  | k + 1, hp, t, h => by
    rw [kz_R, List.mem_append] at h
    rcases h with h | h
    · exact kz_R_a k (fun i q => hp i (by omega)) t h
    · have : t = row k := by simpa using h
      rw [this]; exact hp k (by omega)
/-- the second list is the first without some that need not be offered -/
def kz_sub (wi : Nat → Int32) : List Nat → List Nat → Prop
  | [], lx => lx = []
  | t :: l, lx => (∃ lx', lx = t :: lx' ∧ kz_sub wi l lx') ∨ (¬ wi t < 0 ∧ kz_sub wi l lx)
theorem kz_sub_r {wi : Nat → Int32} : ∀ l, kz_sub wi l l
  | [] => rfl
  | t :: l => Or.inl ⟨l, rfl, kz_sub_r l⟩
theorem kz_sub_a {wi : Nat → Int32} : ∀ l lx m mx, kz_sub wi l lx → kz_sub wi m mx → kz_sub wi (l ++ m) (lx ++ mx)
  | [], lx, m, mx, h, h2 => by
    have : lx = [] := h
    subst this; exact h2
  | t :: l, lx, m, mx, h, h2 => by
    rcases h with ⟨lx', e, h⟩ | ⟨n, h⟩
    · subst e; exact Or.inl ⟨lx' ++ mx, rfl, kz_sub_a l lx' m mx h h2⟩
    · exact Or.inr ⟨n, kz_sub_a l lx m mx h h2⟩
theorem kz_sub_s1 {wi : Nat → Int32} {l lx : List Nat} {t : Nat} (h : kz_sub wi l lx) : kz_sub wi (l ++ [t]) (lx ++ [t]) := kz_sub_a l lx [t] [t] h (kz_sub_r _)
theorem kz_sub_s0 {wi : Nat → Int32} {l lx : List Nat} {t : Nat} (h : kz_sub wi l lx) (n : ¬ wi t < 0) : kz_sub wi (l ++ [t]) lx := by
  have := kz_sub_a l lx [t] [] h (Or.inr ⟨n, rfl⟩)
  rwa [List.append_nil] at this
section
variable {f_made f_blocks f_arrivals f_top f_many f_feeNow : Int32} {a_op a_number a_tokens a_used a_timed a_stack a_inCoin a_inA a_inB a_ins a_amount a_script a_outs a_fitting a_parent a_height a_work a_holds a_held a_rewardScript a_reward a_delivered a_arrival a_right a_wrong a_chain a_born a_spent a_since a_row a_fees a_taker a_before : Nat → Int32} {oP tk ic ni nu sc rs nh hd pa he : Nat → Nat} {md bk : Nat} {row c : Nat → Nat} {mn hi : Nat} {K : kc_K}
theorem xx_rn128 {post : SX → Prop} {lx : List Nat} {ag : Nat → Int32} : ∀ (m i : Nat) (f : Nat → Int32) (n : Nat), i + m = 152 → m < n →
    (∃ n, wX_renew_155 post n 0 f_made f_blocks f_arrivals f_top 0 (nI lx.length) f_feeNow a_op a_number a_tokens a_used a_timed a_stack a_inCoin a_inA a_inB a_ins a_amount a_script a_outs a_fitting a_parent a_height a_work a_holds a_held a_rewardScript a_reward a_delivered a_arrival a_right a_wrong a_chain a_born a_spent a_since a_row a_fees (kc_sg (fun j => j) (fun _ => -1) m i f) ag a_before) →
    wX_renew_128 post f_made f_blocks f_arrivals f_top f_many (nI lx.length) f_feeNow n (nI i) a_op a_number a_tokens a_used a_timed a_stack a_inCoin a_inA a_inB a_ins a_amount a_script a_outs a_fitting a_parent a_height a_work a_holds a_held a_rewardScript a_reward a_delivered a_arrival a_right a_wrong a_chain a_born a_spent a_since a_row a_fees f ag a_before := by
  intro m
  induction m with
  | zero =>
    intro i f n e hn hp
    obtain ⟨n, rfl⟩ : ∃ n', n = n' + 1 := ⟨n - 1, by omega⟩
    exact pk_le 152 i (fun _ => hp) (fun z => by omega)
  | succ m ih =>
    intro i f n e hn hp
    obtain ⟨n, rfl⟩ : ∃ n', n = n' + 1 := ⟨n - 1, by omega⟩
    exact pk_le 152 i (fun z => by omega) (fun _ => And.intro (pk_in i 152 (by omega)) (nm_r (kn_uv i kn_vm1) (nm_r (nI_1 i) (ih (i + 1) _ n (by omega) (by omega) hp))))
end
section
variable {f_made f_blocks f_arrivals f_top f_feeNow : Int32} {a_op a_number a_tokens a_used a_timed a_stack a_inCoin a_inA a_inB a_ins a_amount a_script a_outs a_fitting a_parent a_height a_work a_holds a_held a_rewardScript a_reward a_delivered a_arrival a_right a_wrong a_chain a_born a_spent a_since a_row a_fees a_taker a_before : Nat → Int32} {oP tk ic ni nu sc rs nh hd pa he : Nat → Nat} {md bk : Nat} {row c : Nat → Nat} {mn hi : Nat} {K : kc_K}
theorem xx_rn90 {l0 l : List Nat} (h12 : mn ≤ 12) (Hr : kn_H a_row row 40) : ∀ (m k : Nat) (lx : List Nat) (ag : Nat → Int32), k + m = mn → lx.length ≤ 40 + k → kz_A ag 0 lx → kz_sub a_since (l ++ kz_R row k) lx →
    ∃ lx' ag', kz_A ag' 0 lx' ∧ kz_sub a_since (l ++ kz_R row mn) lx' ∧ lx'.length ≤ 52 ∧ ∀ post : SX → Prop, (∃ n, wX_renew_155 post n 0 f_made f_blocks f_arrivals f_top 0 (nI lx'.length) f_feeNow a_op a_number a_tokens a_used a_timed a_stack a_inCoin a_inA a_inB a_ins a_amount a_script a_outs a_fitting a_parent a_height a_work a_holds a_held a_rewardScript a_reward a_delivered a_arrival a_right a_wrong a_chain a_born a_spent a_since a_row a_fees (kc_sg (fun j => j) (fun _ => -1) 152 0 a_taker) ag' a_before) → ∀ n, m < n →
      wX_renew_90 post f_made f_blocks f_arrivals f_top (nI mn) f_feeNow n (nI k) (nI lx.length) a_op a_number a_tokens a_used a_timed a_stack a_inCoin a_inA a_inB a_ins a_amount a_script a_outs a_fitting a_parent a_height a_work a_holds a_held a_rewardScript a_reward a_delivered a_arrival a_right a_wrong a_chain a_born a_spent a_since a_row a_fees a_taker ag a_before := by
  intro m
  induction m with
  | zero =>
    intro k lx ag e hl hA hs
    refine ⟨lx, ag, hA, by rw [← show k = mn by omega]; exact hs, by omega, fun post W n hn => ?_⟩
    obtain ⟨n, rfl⟩ : ∃ n', n = n' + 1 := ⟨n - 1, by omega⟩
    exact pk_le mn k (fun _ => ⟨153, xx_rn128 152 0 a_taker _ rfl (by omega) W⟩) (fun z => by omega)
  | succ m ih =>
    intro k lx ag e hl hA hs
    have rl := kn_l Hr k
    obtain ⟨lx', ag', hA', hs', hl', R⟩ := ih (k + 1) (lx ++ [row k]) (upd ag lx.length (nI (row k))) (by omega) (by rw [List.length_append]; show lx.length + 1 ≤ _; omega) (kz_snoc hA) (by rw [kz_R, ← List.append_assoc]; exact kz_sub_s1 hs)
    refine ⟨lx', ag', hA', hs', hl', fun post W n hn => ?_⟩
    obtain ⟨n, rfl⟩ : ∃ n', n = n' + 1 := ⟨n - 1, by omega⟩
    refine pk_le mn k (fun z => by omega) (fun _ => nm_r (e' := nI (lx ++ [row k]).length) (by rw [List.length_append]; exact nI_1 _) (And.intro (pk_in k 12 (by omega)) (And.intro (pk_in lx.length 60 (by omega)) (nm_r (e' := upd ag lx.length (nI (row k))) ?_ (nm_r (nI_1 k) (R post W n (by omega)))))))
    rw [kn_at Hr k, kn_vb (row k), kn_ux lx.length]
theorem xx_rn16 {h b : Nat} {x1 : Int32} {l0 : List Nat} (hb : b < bk) (hh : h < 32) (N : kd_N oP tk ic ni nu sc rs nh hd pa he md bk) (D : kx_D a_op a_number a_tokens a_timed a_inCoin a_ins a_outs a_script a_rewardScript a_holds a_held a_parent a_height oP tk ic ni nu sc rs nh hd pa he) (hbf : a_before h = nI b) (hT : l0.length + nh b ≤ 40) :
    ∀ (m j : Nat) (lx : List Nat) (ag : Nat → Int32), j + m = nh b → lx.length ≤ l0.length + j → kz_A ag 0 lx → kz_sub a_since (l0 ++ kz_B nh hd b j) lx →
    ∃ lx' ag', kz_A ag' 0 lx' ∧ kz_sub a_since (l0 ++ kz_B nh hd b (nh b)) lx' ∧ lx'.length ≤ l0.length + nh b ∧ ∀ (post : SX → Prop) (J : Int32 → Int32 → (Nat → Int32) → (Nat → Int32) → (Nat → Int32) → (Nat → Int32) → (Nat → Int32) → (Nat → Int32) → (Nat → Int32) → (Nat → Int32) → (Nat → Int32) → (Nat → Int32) → (Nat → Int32) → (Nat → Int32) → (Nat → Int32) → (Nat → Int32) → (Nat → Int32) → (Nat → Int32) → (Nat → Int32) → (Nat → Int32) → (Nat → Int32) → (Nat → Int32) → (Nat → Int32) → (Nat → Int32) → (Nat → Int32) → (Nat → Int32) → (Nat → Int32) → (Nat → Int32) → (Nat → Int32) → (Nat → Int32) → (Nat → Int32) → (Nat → Int32) → (Nat → Int32) → (Nat → Int32) → (Nat → Int32) → (Nat → Int32) → Prop), J (nI (h + 1)) (nI lx'.length) a_op a_number a_tokens a_used a_timed a_stack a_inCoin a_inA a_inB a_ins a_amount a_script a_outs a_fitting a_parent a_height a_work a_holds a_held a_rewardScript a_reward a_delivered a_arrival a_right a_wrong a_chain a_born a_spent a_since a_row a_fees a_taker ag' a_before → ∀ n, m < n →
      wX_renew_16 post J x1 (nI h) f_made f_blocks f_arrivals f_top (nI mn) f_feeNow n (nI (4 * b + j)) (nI lx.length) a_op a_number a_tokens a_used a_timed a_stack a_inCoin a_inA a_inB a_ins a_amount a_script a_outs a_fitting a_parent a_height a_work a_holds a_held a_rewardScript a_reward a_delivered a_arrival a_right a_wrong a_chain a_born a_spent a_since a_row a_fees a_taker ag a_before := by
  have b32 := kd_bk N
  have d := kn_l (dx_nh D) b
  have m40 := kd_md N
  have c1 : a_before (nI h).toNatClampNeg = nI b := by rw [nI_clamp (by omega)]; exact hbf
  have e4 : 4 * a_before (nI h).toNatClampNeg + a_holds (a_before (nI h).toNatClampNeg).toNatClampNeg = nI (4 * b + nh b) := by rw [c1]; exact kn_e4 (dx_nh D) b
  intro m
  induction m with
  | zero =>
    intro j lx ag e hl hA hs
    refine ⟨lx, ag, hA, by rw [← show j = nh b by omega]; exact hs, by omega, fun post J hJ n hn => ?_⟩
    obtain ⟨n, rfl⟩ : ∃ n', n = n' + 1 := ⟨n - 1, by omega⟩
    exact And.intro (pk_in h 32 hh) (And.intro (pk_in h 32 hh) (And.intro (pk_in b 33 (by omega) c1) (pk_le (4 * b + nh b) (4 * b + j) (fun _ => nm_r (nI_1 h) hJ) (fun z => by omega) e4)))
  | succ m ih =>
    intro j lx ag e hl hA hs
    have hj := kd_hd N hb (show j < nh b by omega)
    have eh := kn_at (dx_hd D) (4 * b + j)
    by_cases z : a_since (hd (4 * b + j)) < 0
    · obtain ⟨lx', ag', hA', hs', hl', R⟩ := ih (j + 1) (lx ++ [hd (4 * b + j)]) (upd ag lx.length (nI (hd (4 * b + j)))) (by omega) (by rw [List.length_append]; show lx.length + 1 ≤ _; omega) (kz_snoc hA) (by rw [kz_B, ← List.append_assoc]; exact kz_sub_s1 hs)
      refine ⟨lx', ag', hA', hs', hl', fun post J hJ n hn => ?_⟩
      obtain ⟨n, rfl⟩ : ∃ n', n = n' + 1 := ⟨n - 1, by omega⟩
      refine And.intro (pk_in h 32 hh) (And.intro (pk_in h 32 hh) (And.intro (pk_in b 33 (by omega) c1) (pk_le (4 * b + nh b) (4 * b + j) (fun z => by omega) (fun _ => And.intro (pk_in (4 * b + j) 132 (by omega)) (And.intro (pk_in (hd (4 * b + j)) 40 (by omega) eh) ?_)) e4)))
      rw [eh, nI_clamp (show hd (4 * b + j) < 2 ^ 31 by omega)]
      refine br_f (Int32.not_le.mpr z) (nm_r (e' := nI (lx ++ [hd (4 * b + j)]).length) (by rw [List.length_append]; exact nI_1 _) (And.intro (pk_in (4 * b + j) 132 (by omega)) (And.intro (pk_in lx.length 60 (by omega)) (nm_r (e' := upd ag lx.length (nI (hd (4 * b + j)))) ?_ (nm_r (nI_1 (4 * b + j)) (R post J hJ n (by omega)))))))
      rw [kn_vb (hd (4 * b + j)), kn_ux lx.length]
    · obtain ⟨lx', ag', hA', hs', hl', R⟩ := ih (j + 1) lx ag (by omega) (by omega) hA (by rw [kz_B, ← List.append_assoc]; exact kz_sub_s0 hs z)
      refine ⟨lx', ag', hA', hs', hl', fun post J hJ n hn => ?_⟩
      obtain ⟨n, rfl⟩ : ∃ n', n = n' + 1 := ⟨n - 1, by omega⟩
      refine And.intro (pk_in h 32 hh) (And.intro (pk_in h 32 hh) (And.intro (pk_in b 33 (by omega) c1) (pk_le (4 * b + nh b) (4 * b + j) (fun z => by omega) (fun _ => And.intro (pk_in (4 * b + j) 132 (by omega)) (And.intro (pk_in (hd (4 * b + j)) 40 (by omega) eh) ?_)) e4)))
      rw [eh, nI_clamp (show hd (4 * b + j) < 2 ^ 31 by omega)]
      exact br_t (Int32.not_lt.mp z) (nm_r (nI_1 (4 * b + j)) (R post J hJ n (by omega)))
theorem xx_rn2 (h32 : hi < 32) (h12 : mn ≤ 12) (Hr : kn_H a_row row 40) (N : kd_N oP tk ic ni nu sc rs nh hd pa he md bk) (D : kx_D a_op a_number a_tokens a_timed a_inCoin a_ins a_outs a_script a_rewardScript a_holds a_held a_parent a_height oP tk ic ni nu sc rs nh hd pa he) (Q : kc_ch bk pa he c hi) (hbf : ∀ h, h ≤ hi → a_before h = nI (c h)) (h40 : (kz_T nh hd c (hi + 1)).length ≤ 40) :
    ∀ (m h : Nat) (lx : List Nat) (ag : Nat → Int32), h + m = hi + 1 → lx.length ≤ (kz_T nh hd c h).length → kz_A ag 0 lx → kz_sub a_since (kz_T nh hd c h) lx →
    ∃ lx' ag', kz_A ag' 0 lx' ∧ kz_sub a_since (kz_T nh hd c (hi + 1) ++ kz_R row mn) lx' ∧ lx'.length ≤ 52 ∧ ∀ post : SX → Prop, (∃ n, wX_renew_155 post n 0 f_made f_blocks f_arrivals f_top 0 (nI lx'.length) f_feeNow a_op a_number a_tokens a_used a_timed a_stack a_inCoin a_inA a_inB a_ins a_amount a_script a_outs a_fitting a_parent a_height a_work a_holds a_held a_rewardScript a_reward a_delivered a_arrival a_right a_wrong a_chain a_born a_spent a_since a_row a_fees (kc_sg (fun j => j) (fun _ => -1) 152 0 a_taker) ag' a_before) → ∀ n, m < n →
      wX_renew_2 post (nI hi) f_made f_blocks f_arrivals f_top (nI mn) f_feeNow n (nI h) (nI lx.length) a_op a_number a_tokens a_used a_timed a_stack a_inCoin a_inA a_inB a_ins a_amount a_script a_outs a_fitting a_parent a_height a_work a_holds a_held a_rewardScript a_reward a_delivered a_arrival a_right a_wrong a_chain a_born a_spent a_since a_row a_fees a_taker ag a_before := by
  intro m
  induction m with
  | zero =>
    intro h lx ag e hl hA hs
    have eh : h = hi + 1 := by omega
    subst eh
    obtain ⟨lx', ag', hA', hs', hl', R⟩ := xx_rn90 (f_made := f_made) (f_blocks := f_blocks) (f_arrivals := f_arrivals) (f_top := f_top) (f_feeNow := f_feeNow) (a_op := a_op) (a_number := a_number) (a_tokens := a_tokens) (a_used := a_used) (a_timed := a_timed) (a_stack := a_stack) (a_inCoin := a_inCoin) (a_inA := a_inA) (a_inB := a_inB) (a_ins := a_ins) (a_amount := a_amount) (a_script := a_script) (a_outs := a_outs) (a_fitting := a_fitting) (a_parent := a_parent) (a_height := a_height) (a_work := a_work) (a_holds := a_holds) (a_held := a_held) (a_rewardScript := a_rewardScript) (a_reward := a_reward) (a_delivered := a_delivered) (a_arrival := a_arrival) (a_right := a_right) (a_wrong := a_wrong) (a_chain := a_chain) (a_born := a_born) (a_spent := a_spent) (a_since := a_since) (a_row := a_row) (a_fees := a_fees) (a_taker := a_taker) (a_before := a_before) (l0 := []) (l := kz_T nh hd c (hi + 1)) h12 Hr mn 0 lx ag (by omega) (by omega) hA (by rw [kz_R, List.append_nil]; exact hs)
    refine ⟨lx', ag', hA', hs', hl', fun post W n hn => ?_⟩
    obtain ⟨n, rfl⟩ : ∃ n', n = n' + 1 := ⟨n - 1, by omega⟩
    exact pk_lt hi (hi + 1) (fun _ => ⟨mn + 1, R post W _ (by omega)⟩) (fun z => by omega)
  | succ m ih =>
    intro h lx ag e hl hA hs
    have qh := Q.1 h (by omega)
    have hm := kz_T_m (nh := nh) (hd := hd) (c := c) (hi - h) (h + 1)
    rw [show h + 1 + (hi - h) = hi + 1 by omega] at hm
    have ts := kz_T_s (nh := nh) (hd := hd) (c := c) (h := h)
    obtain ⟨lx1, ag1, hA1, hs1, hl1, R1⟩ := xx_rn16 (f_made := f_made) (f_blocks := f_blocks) (f_arrivals := f_arrivals) (f_top := f_top) (f_feeNow := f_feeNow) (a_op := a_op) (a_number := a_number) (a_tokens := a_tokens) (a_used := a_used) (a_timed := a_timed) (a_stack := a_stack) (a_inCoin := a_inCoin) (a_inA := a_inA) (a_inB := a_inB) (a_ins := a_ins) (a_amount := a_amount) (a_script := a_script) (a_outs := a_outs) (a_fitting := a_fitting) (a_parent := a_parent) (a_height := a_height) (a_work := a_work) (a_holds := a_holds) (a_held := a_held) (a_rewardScript := a_rewardScript) (a_reward := a_reward) (a_delivered := a_delivered) (a_arrival := a_arrival) (a_right := a_right) (a_wrong := a_wrong) (a_chain := a_chain) (a_born := a_born) (a_spent := a_spent) (a_since := a_since) (a_row := a_row) (a_fees := a_fees) (a_taker := a_taker) (a_before := a_before) (mn := mn) (x1 := nI hi) (l0 := kz_T nh hd c h) qh.1 (show h < 32 by omega) N D (hbf h (by omega)) (by omega) (nh (c h)) 0 lx ag (by omega) (by omega) hA (by rw [kz_B, List.append_nil]; exact hs)
    obtain ⟨lx', ag', hA', hs', hl', R⟩ := ih (h + 1) lx1 ag1 (by omega) (by omega) hA1 (by rw [kz_T]; exact hs1)
    refine ⟨lx', ag', hA', hs', hl', fun post W n hn => ?_⟩
    obtain ⟨n, rfl⟩ : ∃ n', n = n' + 1 := ⟨n - 1, by omega⟩
    refine pk_lt hi h (fun z => by omega) (fun _ => And.intro (pk_in h 32 (by omega)) (nm_r (e' := nI (4 * c h + 0)) ?_ ⟨nh (c h) + 1, R1 post _ (R post W n (by omega)) _ (by omega)⟩))
    rw [nI_clamp (by omega), hbf h (by omega)]; exact kn_m4 (c h)
theorem xx_rn (h32 : hi < 32) (h12 : mn ≤ 12) (Hr : kn_H a_row row 40) (N : kd_N oP tk ic ni nu sc rs nh hd pa he md bk) (D : kx_D a_op a_number a_tokens a_timed a_inCoin a_ins a_outs a_script a_rewardScript a_holds a_held a_parent a_height oP tk ic ni nu sc rs nh hd pa he) {ag : Nat → Int32} (Q : kc_ch bk pa he c hi) (hbf : ∀ h, h ≤ hi → a_before h = nI (c h)) (h40 : (kz_T nh hd c (hi + 1)).length ≤ 40) :
    ∃ lx' ag', kz_A ag' 0 lx' ∧ kz_sub a_since (kz_T nh hd c (hi + 1) ++ kz_R row mn) lx' ∧ lx'.length ≤ 52 ∧ ∀ post : SX → Prop, (∃ n, wX_renew_155 post n 0 f_made f_blocks f_arrivals f_top 0 (nI lx'.length) f_feeNow a_op a_number a_tokens a_used a_timed a_stack a_inCoin a_inA a_inB a_ins a_amount a_script a_outs a_fitting a_parent a_height a_work a_holds a_held a_rewardScript a_reward a_delivered a_arrival a_right a_wrong a_chain a_born a_spent a_since a_row a_fees (kc_sg (fun j => j) (fun _ => -1) 152 0 a_taker) ag' a_before) →
      wpX_renew post (f_made, f_blocks, f_arrivals, f_top, nI mn, 0, f_feeNow, a_op, a_number, a_tokens, a_used, a_timed, a_stack, a_inCoin, a_inA, a_inB, a_ins, a_amount, a_script, a_outs, a_fitting, a_parent, a_height, a_work, a_holds, a_held, a_rewardScript, a_reward, a_delivered, a_arrival, a_right, a_wrong, a_chain, a_born, a_spent, a_since, a_row, a_fees, a_taker, ag, a_before) (nI hi) := by
  have q0 := Q.1 0 (by omega)
  have c0 : c 0 = 0 := (kc_T_0 (kd_T N) q0.1).mp q0.2
  have t1 : kz_T nh hd c 1 = [] := by
    rw [kz_T, kz_T, c0, kd_n0 N]; rfl
  obtain ⟨lx', ag', hA', hs', hl', R⟩ := xx_rn2 (f_made := f_made) (f_blocks := f_blocks) (f_arrivals := f_arrivals) (f_top := f_top) (f_feeNow := f_feeNow) (a_op := a_op) (a_number := a_number) (a_tokens := a_tokens) (a_used := a_used) (a_timed := a_timed) (a_stack := a_stack) (a_inCoin := a_inCoin) (a_inA := a_inA) (a_inB := a_inB) (a_ins := a_ins) (a_amount := a_amount) (a_script := a_script) (a_outs := a_outs) (a_fitting := a_fitting) (a_parent := a_parent) (a_height := a_height) (a_work := a_work) (a_holds := a_holds) (a_held := a_held) (a_rewardScript := a_rewardScript) (a_reward := a_reward) (a_delivered := a_delivered) (a_arrival := a_arrival) (a_right := a_right) (a_wrong := a_wrong) (a_chain := a_chain) (a_born := a_born) (a_spent := a_spent) (a_since := a_since) (a_row := a_row) (a_fees := a_fees) (a_taker := a_taker) (a_before := a_before) h32 h12 Hr N D Q hbf h40 hi 1 [] ag (by omega) (by simp) (fun i hi => by simp at hi) (by rw [t1]; rfl)
  exact ⟨lx', ag', hA', hs', hl', fun post W => ⟨hi + 1, R post W _ (by omega)⟩⟩
end
section
variable {g_made g_blocks g_arrivals g_tip g_chainLength : Int32} {b_op b_arg b_length b_ins b_inCoin b_inA b_inB b_outs b_amount b_lock b_parent b_work b_rewardLock b_height b_many b_holds b_delivered b_arrived b_pool b_chain b_from b_worth b_within b_spent b_stack b_chosen : Nat → Int32} {oP tk ic ni nu sc rs nh hd pa he : Nat → Nat} {md bk : Nat} {row c : Nat → Nat} {mn hi : Nat}
theorem yy_f170 {B : Int32} {l : List Nat} (h12 : mn ≤ 12) (Hr : kn_H b_pool row 40) (hl : l.length ≤ 40) : ∀ (m k : Nat) (ya : Nat → Int32), k + m = mn → kz_A ya 0 (l ++ kz_R row k) →
    ∃ ya', kz_A ya' 0 (l ++ kz_R row mn) ∧ ∀ post : SY → Prop, wpY_walk (fun _ u => match u with | (g_made, g_blocks, g_arrivals, g_tip, g_pooled, g_chainLength, b_op, b_arg, b_length, b_ins, b_inCoin, b_inA, b_inB, b_outs, b_amount, b_lock, b_parent, b_work, b_rewardLock, b_height, b_many, b_holds, b_delivered, b_arrived, b_pool, b_chain, b_from, b_worth, b_within, b_spent, b_stack, b_again, b_chosen) => ∃ n220 : Nat, wY_findTip_220 post (nI (l ++ kz_R row mn).length) n220 0 g_made g_blocks g_arrivals g_tip g_pooled g_chainLength b_op b_arg b_length b_ins b_inCoin b_inA b_inB b_outs b_amount b_lock b_parent b_work b_rewardLock b_height b_many b_holds b_delivered b_arrived b_pool b_chain b_from b_worth b_within b_spent b_stack b_again b_chosen) (g_made, g_blocks, g_arrivals, B, 0, g_chainLength, b_op, b_arg, b_length, b_ins, b_inCoin, b_inA, b_inB, b_outs, b_amount, b_lock, b_parent, b_work, b_rewardLock, b_height, b_many, b_holds, b_delivered, b_arrived, b_pool, b_chain, b_from, b_worth, b_within, b_spent, b_stack, ya', b_chosen) B → ∀ n, m < n →
      wY_findTip_170 post B g_made g_blocks g_arrivals g_tip (nI mn) g_chainLength n (nI (l ++ kz_R row k).length) (nI k) b_op b_arg b_length b_ins b_inCoin b_inA b_inB b_outs b_amount b_lock b_parent b_work b_rewardLock b_height b_many b_holds b_delivered b_arrived b_pool b_chain b_from b_worth b_within b_spent b_stack ya b_chosen := by
  intro m
  induction m with
  | zero =>
    intro k ya e hA
    have ek : k = mn := by omega
    subst ek
    refine ⟨ya, hA, fun post W n hn => ?_⟩
    obtain ⟨n, rfl⟩ : ∃ n', n = n' + 1 := ⟨n - 1, by omega⟩
    exact pk_le k k (fun _ => W) (fun z => by omega)
  | succ m ih =>
    intro k ya e hA
    have rl := kn_l Hr k
    have le : (l ++ kz_R row k).length = l.length + k := by rw [List.length_append, kz_R_l]
    obtain ⟨ya', hA', R⟩ := ih (k + 1) (upd ya (l ++ kz_R row k).length (nI (row k))) (by omega) (by rw [kz_R, ← List.append_assoc]; exact kz_snoc hA)
    refine ⟨ya', hA', fun post W n hn => ?_⟩
    obtain ⟨n, rfl⟩ : ∃ n', n = n' + 1 := ⟨n - 1, by omega⟩
    refine pk_le mn k (fun z => by omega) (fun _ => And.intro (pk_in k 12 (by omega)) (And.intro (pk_in (l ++ kz_R row k).length 200 (by omega)) (nm_r (e' := upd ya (l ++ kz_R row k).length (nI (row k))) ?_ (nm_r (e' := nI (l ++ kz_R row (k + 1)).length) ?_ (nm_r (nI_1 k) (R post W n (by omega)))))))
    · rw [kn_at Hr k, kn_ux (l ++ kz_R row k).length]
    · rw [nI_1]; exact congrArg nI (by simp only [kz_R, List.length_append, List.length_cons, List.length_nil]; omega)
theorem yy_f115 {h b : Nat} {B : Int32} {l0 : List Nat} (hb : b < bk) (hh : h < 32) (N : kd_N oP tk ic ni nu sc rs nh hd pa he md bk) (D : ky_D b_op b_arg b_length b_inCoin b_ins b_outs b_lock b_rewardLock b_many b_holds b_parent b_height oP tk ic ni nu sc rs nh hd pa he) (hc : b_chain h = nI b) (hT : l0.length + nh b ≤ 40) :
    ∀ (m j : Nat) (ya : Nat → Int32), j + m = nh b → kz_A ya 0 (l0 ++ kz_B nh hd b j) →
    ∃ ya', kz_A ya' 0 (l0 ++ kz_B nh hd b (nh b)) ∧ ∀ (post : SY → Prop) (J : Int32 → Int32 → (Nat → Int32) → (Nat → Int32) → (Nat → Int32) → (Nat → Int32) → (Nat → Int32) → (Nat → Int32) → (Nat → Int32) → (Nat → Int32) → (Nat → Int32) → (Nat → Int32) → (Nat → Int32) → (Nat → Int32) → (Nat → Int32) → (Nat → Int32) → (Nat → Int32) → (Nat → Int32) → (Nat → Int32) → (Nat → Int32) → (Nat → Int32) → (Nat → Int32) → (Nat → Int32) → (Nat → Int32) → (Nat → Int32) → (Nat → Int32) → (Nat → Int32) → (Nat → Int32) → (Nat → Int32) → Prop), J (nI (l0 ++ kz_B nh hd b (nh b)).length) (nI (h + 1)) b_op b_arg b_length b_ins b_inCoin b_inA b_inB b_outs b_amount b_lock b_parent b_work b_rewardLock b_height b_many b_holds b_delivered b_arrived b_pool b_chain b_from b_worth b_within b_spent b_stack ya' b_chosen → ∀ n, m < n →
      wY_findTip_115 post J B (nI h) g_made g_blocks g_arrivals g_tip (nI mn) g_chainLength n (nI (l0 ++ kz_B nh hd b j).length) (nI (4 * b + j)) b_op b_arg b_length b_ins b_inCoin b_inA b_inB b_outs b_amount b_lock b_parent b_work b_rewardLock b_height b_many b_holds b_delivered b_arrived b_pool b_chain b_from b_worth b_within b_spent b_stack ya b_chosen := by
  have b32 := kd_bk N
  have d := kn_l (dy_nh D) b
  have c1 : b_chain (nI h).toNatClampNeg = nI b := by rw [nI_clamp (by omega)]; exact hc
  have e4 : 4 * b_chain (nI h).toNatClampNeg + b_many (b_chain (nI h).toNatClampNeg).toNatClampNeg = nI (4 * b + nh b) := by rw [c1]; exact kn_e4 (dy_nh D) b
  intro m
  induction m with
  | zero =>
    intro j ya e hA
    have ej : j = nh b := by omega
    subst ej
    refine ⟨ya, hA, fun post J hJ n hn => ?_⟩
    obtain ⟨n, rfl⟩ : ∃ n', n = n' + 1 := ⟨n - 1, by omega⟩
    exact And.intro (pk_in h 32 hh) (And.intro (pk_in h 32 hh) (And.intro (pk_in b 33 (by omega) c1) (pk_le (4 * b + nh b) (4 * b + nh b) (fun _ => nm_r (nI_1 h) hJ) (fun z => by omega) e4)))
  | succ m ih =>
    intro j ya e hA
    have eh := kn_at (dy_hd D) (4 * b + j)
    have le : (l0 ++ kz_B nh hd b j).length = l0.length + j := by rw [List.length_append, kz_B_l]
    obtain ⟨ya', hA', R⟩ := ih (j + 1) (upd ya (l0 ++ kz_B nh hd b j).length (nI (hd (4 * b + j)))) (by omega) (by rw [kz_B, ← List.append_assoc]; exact kz_snoc hA)
    refine ⟨ya', hA', fun post J hJ n hn => ?_⟩
    obtain ⟨n, rfl⟩ : ∃ n', n = n' + 1 := ⟨n - 1, by omega⟩
    refine And.intro (pk_in h 32 hh) (And.intro (pk_in h 32 hh) (And.intro (pk_in b 33 (by omega) c1) (pk_le (4 * b + nh b) (4 * b + j) (fun z => by omega) (fun _ => And.intro (pk_in (4 * b + j) 132 (by omega)) (And.intro (pk_in (l0 ++ kz_B nh hd b j).length 200 (by omega)) (nm_r (e' := upd ya (l0 ++ kz_B nh hd b j).length (nI (hd (4 * b + j)))) ?_ (nm_r (e' := nI (l0 ++ kz_B nh hd b (j + 1)).length) ?_ (nm_r (nI_1 (4 * b + j)) (R post J hJ n (by omega))))))) e4)))
    · rw [eh, kn_ux (l0 ++ kz_B nh hd b j).length]
    · rw [nI_1]; exact congrArg nI (by simp only [kz_B, List.length_append, List.length_cons, List.length_nil]; omega)
end
section
variable {g_made g_blocks g_arrivals g_tip : Int32} {b_op b_arg b_length b_ins b_inCoin b_inA b_inB b_outs b_amount b_lock b_parent b_work b_rewardLock b_height b_many b_holds b_delivered b_arrived b_pool b_chain b_from b_worth b_within b_spent b_stack b_chosen : Nat → Int32} {oP tk ic ni nu sc rs nh hd pa he : Nat → Nat} {md bk : Nat} {row c : Nat → Nat} {mn hi : Nat}
theorem yy_f97 {B : Int32} (h32 : hi < 32) (h12 : mn ≤ 12) (Hr : kn_H b_pool row 40) (N : kd_N oP tk ic ni nu sc rs nh hd pa he md bk) (D : ky_D b_op b_arg b_length b_inCoin b_ins b_outs b_lock b_rewardLock b_many b_holds b_parent b_height oP tk ic ni nu sc rs nh hd pa he) (Q : kc_ch bk pa he c hi) (hc : ∀ h, h ≤ hi → b_chain h = nI (c h)) (h40 : (kz_T nh hd c (hi + 1)).length ≤ 40) :
    ∀ (m h : Nat) (ya : Nat → Int32), h + m = hi + 1 → kz_A ya 0 (kz_T nh hd c h) →
    ∃ ya', kz_A ya' 0 (kz_T nh hd c (hi + 1) ++ kz_R row mn) ∧ ∀ post : SY → Prop, wpY_walk (fun _ u => match u with | (g_made, g_blocks, g_arrivals, g_tip, g_pooled, g_chainLength, b_op, b_arg, b_length, b_ins, b_inCoin, b_inA, b_inB, b_outs, b_amount, b_lock, b_parent, b_work, b_rewardLock, b_height, b_many, b_holds, b_delivered, b_arrived, b_pool, b_chain, b_from, b_worth, b_within, b_spent, b_stack, b_again, b_chosen) => ∃ n220 : Nat, wY_findTip_220 post (nI (kz_T nh hd c (hi + 1) ++ kz_R row mn).length) n220 0 g_made g_blocks g_arrivals g_tip g_pooled g_chainLength b_op b_arg b_length b_ins b_inCoin b_inA b_inB b_outs b_amount b_lock b_parent b_work b_rewardLock b_height b_many b_holds b_delivered b_arrived b_pool b_chain b_from b_worth b_within b_spent b_stack b_again b_chosen) (g_made, g_blocks, g_arrivals, B, 0, nI (hi + 1), b_op, b_arg, b_length, b_ins, b_inCoin, b_inA, b_inB, b_outs, b_amount, b_lock, b_parent, b_work, b_rewardLock, b_height, b_many, b_holds, b_delivered, b_arrived, b_pool, b_chain, b_from, b_worth, b_within, b_spent, b_stack, ya', b_chosen) B → ∀ n, m < n →
      wY_findTip_97 post B g_made g_blocks g_arrivals g_tip (nI mn) (nI (hi + 1)) n (nI (kz_T nh hd c h).length) (nI h) b_op b_arg b_length b_ins b_inCoin b_inA b_inB b_outs b_amount b_lock b_parent b_work b_rewardLock b_height b_many b_holds b_delivered b_arrived b_pool b_chain b_from b_worth b_within b_spent b_stack ya b_chosen := by
  intro m
  induction m with
  | zero =>
    intro h ya e hA
    have eh : h = hi + 1 := by omega
    subst eh
    obtain ⟨ya', hA', R⟩ := yy_f170 (g_made := g_made) (g_blocks := g_blocks) (g_arrivals := g_arrivals) (g_tip := g_tip) (g_chainLength := nI (hi + 1)) (b_op := b_op) (b_arg := b_arg) (b_length := b_length) (b_ins := b_ins) (b_inCoin := b_inCoin) (b_inA := b_inA) (b_inB := b_inB) (b_outs := b_outs) (b_amount := b_amount) (b_lock := b_lock) (b_parent := b_parent) (b_work := b_work) (b_rewardLock := b_rewardLock) (b_height := b_height) (b_many := b_many) (b_holds := b_holds) (b_delivered := b_delivered) (b_arrived := b_arrived) (b_pool := b_pool) (b_chain := b_chain) (b_from := b_from) (b_worth := b_worth) (b_within := b_within) (b_spent := b_spent) (b_stack := b_stack) (b_chosen := b_chosen) (B := B) (l := kz_T nh hd c (hi + 1)) h12 Hr h40 mn 0 ya (by omega) (by rw [kz_R, List.append_nil]; exact hA)
    rw [kz_R, List.append_nil] at R
    refine ⟨ya', hA', fun post W n hn => ?_⟩
    obtain ⟨n, rfl⟩ : ∃ n', n = n' + 1 := ⟨n - 1, by omega⟩
    exact pk_le (hi + 1) (hi + 1) (fun _ => ⟨mn + 1, R post W _ (by omega)⟩) (fun z => by omega)
  | succ m ih =>
    intro h ya e hA
    have qh := Q.1 h (by omega)
    have hm := kz_T_m (nh := nh) (hd := hd) (c := c) (hi - h) (h + 1)
    rw [show h + 1 + (hi - h) = hi + 1 by omega] at hm
    have ts := kz_T_s (nh := nh) (hd := hd) (c := c) (h := h)
    obtain ⟨ya1, hA1, R1⟩ := yy_f115 (g_made := g_made) (g_blocks := g_blocks) (g_arrivals := g_arrivals) (g_tip := g_tip) (g_chainLength := nI (hi + 1)) (b_op := b_op) (b_arg := b_arg) (b_length := b_length) (b_ins := b_ins) (b_inCoin := b_inCoin) (b_inA := b_inA) (b_inB := b_inB) (b_outs := b_outs) (b_amount := b_amount) (b_lock := b_lock) (b_parent := b_parent) (b_work := b_work) (b_rewardLock := b_rewardLock) (b_height := b_height) (b_many := b_many) (b_holds := b_holds) (b_delivered := b_delivered) (b_arrived := b_arrived) (b_pool := b_pool) (b_chain := b_chain) (b_from := b_from) (b_worth := b_worth) (b_within := b_within) (b_spent := b_spent) (b_stack := b_stack) (b_chosen := b_chosen) (mn := mn) (B := B) (l0 := kz_T nh hd c h) qh.1 (show h < 32 by omega) N D (hc h (by omega)) (by omega) (nh (c h)) 0 ya (by omega) (by rw [kz_B, List.append_nil]; exact hA)
    rw [kz_B, List.append_nil] at R1
    obtain ⟨ya', hA', R⟩ := ih (h + 1) ya1 (by omega) (by rw [kz_T]; exact hA1)
    refine ⟨ya', hA', fun post W n hn => ?_⟩
    obtain ⟨n, rfl⟩ : ∃ n', n = n' + 1 := ⟨n - 1, by omega⟩
    refine pk_le (hi + 1) h (fun z => by omega) (fun _ => And.intro (pk_in h 32 (by omega)) (nm_r (e' := nI (4 * c h + 0)) ?_ ⟨nh (c h) + 1, R1 post _ ?_ _ (by omega)⟩))
    · rw [nI_clamp (by omega), hc h (by omega)]; exact kn_m4 (c h)
    · have := R post W n (by omega)
      rw [kz_T] at this; exact this
end
end
section
/-! ===== both: the list is offered; X: choose ===== -/
section
variable {f_arrivals : Int32} {a_op a_number a_tokens a_used a_timed a_inCoin a_inA a_inB a_ins a_amount a_script a_outs a_parent a_height a_work a_holds a_held a_rewardScript a_delivered a_arrival a_again a_before : Nat → Int32} {g_arrivals : Int32} {b_parent b_work b_arrived : Nat → Int32} {oP tk ic ni nu sc rs nh hd pa he : Nat → Nat} {md bk : Nat} {K : kc_K} {tp tip : Nat} {rw rg wr cn w yc ya yo : Nat → Int32} {cl : Int32}
theorem zz_proc (htip : tip < bk) (et : he tip = tp) (N : kd_N oP tk ic ni nu sc rs nh hd pa he md bk) (D : kx_D a_op a_number a_tokens a_timed a_inCoin a_ins a_outs a_script a_rewardScript a_holds a_held a_parent a_height oP tk ic ni nu sc rs nh hd pa he) (DY : ky_D a_op a_number a_tokens a_inCoin a_ins a_outs a_script a_rewardScript a_holds a_held b_parent a_height oP tk ic ni nu sc rs nh hd pa he) (I : kc_I he (tp + 1) K) (A : kc_A K (kc_av a_amount rw)) (B : kc_A K w) :
    ∀ (l lx : List Nat) (kx ky mn : Nat) (row : Nat → Nat) (fe : Int32) (st fi ra fs tr ys : Nat → Int32), kz_sub K.2.2.1 l lx → (∀ t, t ∈ l → t < md) → kz_A a_again kx lx → kz_A ya ky l → kx + lx.length ≤ 60 → ky + l.length ≤ 200 → kn_H ra row 40 → kp_P ic ni md K row mn → kp_X ic ni nu a_amount rw row mn fs tr → kf_C md ni a_timed (fun i => kx_s sc rs (ic i)) (kf_fit oP a_number tk ic a_inA a_inB sc rs) fi →
    ∃ mn' row' fe' st' fi' ra' fs' tr' ys', kf_C md ni a_timed (fun i => kx_s sc rs (ic i)) (kf_fit oP a_number tk ic a_inA a_inB sc rs) fi' ∧ kn_H ra' row' 40 ∧ kp_P ic ni md K row' mn' ∧ kp_X ic ni nu a_amount rw row' mn' fs' tr' ∧
    (∀ post : SX → Prop, post (nI md, nI bk, f_arrivals, nI tp, nI mn', 0, fe', a_op, a_number, a_tokens, a_used, a_timed, st', a_inCoin, a_inA, a_inB, a_ins, a_amount, a_script, a_outs, fi', a_parent, a_height, a_work, a_holds, a_held, a_rewardScript, rw, a_delivered, a_arrival, rg, wr, cn, K.1, K.2.1, K.2.2.1, ra', fs', tr', a_again, a_before) → ∀ n, lx.length < n → wX_renew_155 post n (nI kx) (nI md) (nI bk) f_arrivals (nI tp) (nI mn) (nI (kx + lx.length)) fe a_op a_number a_tokens a_used a_timed st a_inCoin a_inA a_inB a_ins a_amount a_script a_outs fi a_parent a_height a_work a_holds a_held a_rewardScript rw a_delivered a_arrival rg wr cn K.1 K.2.1 K.2.2.1 ra fs tr a_again a_before) ∧
    (∀ post : SY → Prop, post (nI md, nI bk, g_arrivals, nI tip, nI mn', cl, a_op, a_number, a_tokens, a_ins, a_inCoin, a_inA, a_inB, a_outs, a_amount, a_script, b_parent, b_work, a_rewardScript, a_height, a_holds, a_held, a_delivered, b_arrived, ra', yc, K.1, w, K.2.2.1, K.2.1, ys', ya, yo) → ∀ n, l.length < n → wY_findTip_220 post (nI (ky + l.length)) n (nI ky) (nI md) (nI bk) g_arrivals (nI tip) (nI mn) cl a_op a_number a_tokens a_ins a_inCoin a_inA a_inB a_outs a_amount a_script b_parent b_work a_rewardScript a_height a_holds a_held a_delivered b_arrived ra yc K.1 w K.2.2.1 K.2.1 ys ya yo) := by
  have m40 := kd_md N
  intro l
  induction l with
  | nil =>
    intro lx kx ky mn row fe st fi ra fs tr ys hs hm hx hy lx60 ly Hr P X C
    have e : lx = [] := hs
    subst e
    refine ⟨mn, row, fe, st, fi, ra, fs, tr, ys, C, Hr, P, X, fun post hp n hn => ?_, fun post hp n hn => ?_⟩
    · obtain ⟨n, rfl⟩ : ∃ n', n = n' + 1 := ⟨n - 1, by omega⟩
      exact pk_le (kx + ([] : List Nat).length) kx (fun _ => hp) (fun z => by simp at z)
    · obtain ⟨n, rfl⟩ : ∃ n', n = n' + 1 := ⟨n - 1, by omega⟩
      exact pk_le (ky + ([] : List Nat).length) ky (fun _ => hp) (fun z => by simp at z)
  | cons t l ih =>
    intro lx kx ky mn row fe st fi ra fs tr ys hs hm hx hy lx60 ly Hr P X C
    have ht := hm t (by simp)
    have ll : (t :: l).length = l.length + 1 := rfl
    rw [ll] at ly ⊢
    have eyc : ya (nI ky).toNatClampNeg = nI t := by rw [nI_clamp (by omega)]; exact kz_hd hy
    rcases hs with ⟨lx', e, hs⟩ | ⟨nw, hs⟩
    · subst e
      have lx1 : (t :: lx').length = lx'.length + 1 := rfl
      rw [lx1] at lx60 ⊢
      have exc : a_again (nI kx).toNatClampNeg = nI t := by rw [nI_clamp (by omega)]; exact kz_hd hx
      obtain ⟨r, mn1, row1, fe1, st1, fi1, ra1, fs1, tr1, ys1, C1, Hr1, P1, X1, EX, EY⟩ := zz_step (f_arrivals := f_arrivals) (a_op := a_op) (a_number := a_number) (a_tokens := a_tokens) (a_used := a_used) (a_timed := a_timed) (a_inCoin := a_inCoin) (a_inA := a_inA) (a_inB := a_inB) (a_ins := a_ins) (a_amount := a_amount) (a_script := a_script) (a_outs := a_outs) (a_parent := a_parent) (a_height := a_height) (a_work := a_work) (a_holds := a_holds) (a_held := a_held) (a_rewardScript := a_rewardScript) (a_delivered := a_delivered) (a_arrival := a_arrival) (a_again := a_again) (a_before := a_before) (g_arrivals := g_arrivals) (b_parent := b_parent) (b_work := b_work) (b_arrived := b_arrived) (f_agains := nI (kx + (lx'.length + 1))) (rg := rg) (wr := wr) (cn := cn) (yc := yc) (ya := ya) (yo := yo) (cl := cl) (v := nI t) (rep := 0) (fe := fe) (st := st) (ys := ys) htip et N D DY I Hr P X C A B
      obtain ⟨mn', row', fe', st', fi', ra', fs', tr', ys', C', Hr', P', X', GX, GY⟩ := ih lx' (kx + 1) (ky + 1) mn1 row1 fe1 st1 fi1 ra1 fs1 tr1 ys1 hs (fun u hu => hm u (by simp [hu])) (kz_tl hx) (kz_tl hy) (by omega) (by omega) Hr1 P1 X1 C1
      refine ⟨mn', row', fe', st', fi', ra', fs', tr', ys', C', Hr', P', X', fun post hp n hn => ?_, fun post hp n hn => ?_⟩
      · obtain ⟨n, rfl⟩ : ∃ n', n = n' + 1 := ⟨n - 1, by omega⟩
        refine pk_le (kx + (lx'.length + 1)) kx (fun z => by omega) (fun _ => And.intro (pk_in kx 60 (by omega)) ?_)
        rw [exc]
        refine EX _ ?_
        have := GX post hp n (by omega)
        rw [show kx + 1 + lx'.length = kx + (lx'.length + 1) by omega] at this
        exact nm_r (nI_1 kx) this
      · obtain ⟨n, rfl⟩ : ∃ n', n = n' + 1 := ⟨n - 1, by omega⟩
        refine pk_le (ky + (l.length + 1)) ky (fun z => by omega) (fun _ => And.intro (pk_in ky 200 (by omega)) ?_)
        rw [eyc]
        refine EY _ ?_
        have := GY post hp n (by omega)
        rw [show ky + 1 + l.length = ky + (l.length + 1) by omega] at this
        exact nm_r (nI_1 ky) this
    · obtain ⟨mn', row', fe', st', fi', ra', fs', tr', ys', C', Hr', P', X', GX, GY⟩ := ih lx kx (ky + 1) mn row fe st fi ra fs tr ys hs (fun u hu => hm u (by simp [hu])) hx (kz_tl hy) lx60 (by omega) Hr P X C
      refine ⟨mn', row', fe', st', fi', ra', fs', tr', ys', C', Hr', P', X', GX, fun post hp n hn => ?_⟩
      obtain ⟨n, rfl⟩ : ∃ n', n = n' + 1 := ⟨n - 1, by omega⟩
      refine pk_le (ky + (l.length + 1)) ky (fun z => by omega) (fun _ => And.intro (pk_in ky 200 (by omega)) ?_)
      rw [eyc]
      refine yy_tk_ref N Hr P.1 (Or.inr (Or.inr ⟨t, ht, rfl, Or.inl nw⟩)) ?_
      have := GY post hp n (by omega)
      rw [show ky + 1 + l.length = ky + (l.length + 1) by omega] at this
      exact nm_r (nI_1 ky) this
end
noncomputable def kz_cnt (P : Nat → Prop) (N : Nat) : Nat := cn P N
theorem kz_cnt_lt {P Q : Nat → Prop} {a N : Nat} (hp : ¬ P a) (hq : Q a) (h : ∀ k, k < N → P k → Q k) (ha : a < N) : kz_cnt P N < kz_cnt Q N := cn_lt hp hq h ha
theorem kz_cnt_le (P : Nat → Prop) (N : Nat) : kz_cnt P N ≤ N := cn_le P N
theorem kb_ex {bk : Nat} {wk ar : Nat → Nat} {ok : Nat → Prop} (h0 : ok 0) : ∀ n, ∃ b, b < n + 1 ∧ ok b ∧ ∀ c, c < n + 1 → ok c → ¬ kb_bt wk ar c b
  | 0 => ⟨0, by omega, h0, fun c hc _ => by rw [show c = 0 by omega]; unfold kb_bt; omega⟩
  | n + 1 => by
    obtain ⟨b, h1, h2, h3⟩ := kb_ex (bk := bk) (wk := wk) (ar := ar) h0 n
    by_cases q : ok (n + 1) ∧ kb_bt wk ar (n + 1) b
    · refine ⟨n + 1, by omega, q.1, fun c hc oc => ?_⟩
      by_cases y : c = n + 1
      · rw [y]; unfold kb_bt; omega
      · have a := h3 c (by omega) oc
        have b' := q.2
        unfold kb_bt at a b' ⊢; omega
    · refine ⟨b, by omega, h2, fun c hc oc => ?_⟩
      by_cases y : c = n + 1
      · subst y; exact fun z => q ⟨oc, z⟩
      · exact h3 c (by omega) oc
theorem kb_exM {bk : Nat} {wk ar : Nat → Nat} {ok : Nat → Prop} (hb : 0 < bk) (h0 : ok 0) : ∃ b, kb_M bk wk ar ok b := by
  obtain ⟨b, h1, h2, h3⟩ := kb_ex (bk := bk) (wk := wk) (ar := ar) h0 (bk - 1)
  rw [show bk - 1 + 1 = bk by omega] at h1 h3
  exact ⟨b, h1, h2, h3⟩
theorem kx_V_b {W : Nat → Option kc_K} {bk : Nat} {rw rg wr : Nat → Int32} (V : kx_V W bk rw rg wr) : kn_B wr := fun b => by
  rcases V.2 b with z | z
  · exact Or.inl z
  · exact Or.inr z.1
theorem kx_V_0 {W : Nat → Option kc_K} {bk : Nat} {rw rg wr : Nat → Int32} {b : Nat} (V : kx_V W bk rw rg wr) (h : ∃ K, W b = some K) : wr b = 0 := by
  rcases V.2 b with z | ⟨_, _, z⟩
  · exact z
  · obtain ⟨K, e⟩ := h
    rw [e] at z; exact nomatch z
section
variable {f_made f_arrivals f_many f_agains : Int32} {a_op a_number a_tokens a_used a_timed a_inCoin a_inA a_inB a_ins a_amount a_script a_outs a_parent a_height a_work a_holds a_held a_rewardScript a_delivered a_arrival a_row a_fees a_taker a_again a_before : Nat → Int32} {oP tk ic ni nu sc rs nh hd pa he : Nat → Nat} {md bk : Nat} {wk ar : Nat → Nat} {hi : Nat}
/-- over to the best chain -/
theorem xx_c36 (Hw : kn_H a_work wk 400) (Ha : kn_H a_arrival ar 33) (a0 : ar 0 ≠ 0) (inj : ∀ b c, b < bk → c < bk → ar b ≠ 0 → ar b = ar c → b = c) (h32 : hi < 32) (N : kd_N oP tk ic ni nu sc rs nh hd pa he md bk) (D : kx_D a_op a_number a_tokens a_timed a_inCoin a_ins a_outs a_script a_rewardScript a_holds a_held a_parent a_height oP tk ic ni nu sc rs nh hd pa he) :
    ∀ (M b tp : Nat) (cn : Nat → Int32) (ch : Nat → Nat) (K : kc_K) (fe : Int32) (st fi rw rg wr : Nat → Int32), kz_cnt (fun c => wr c = 0) 32 < M → kb_M bk wk ar (fun c => ar c ≠ 0 ∧ wr c = 0) b → kn_H cn ch 32 → kx_Z (kc_W ic ni nu a_amount (kf_fit oP a_number tk ic a_inA a_inB sc rs) nh hd pa he) bk pa he a_amount rw rg ch tp K → kx_V (kc_W ic ni nu a_amount (kf_fit oP a_number tk ic a_inA a_inB sc rs) nh hd pa he) bk rw rg wr → kf_C md ni a_timed (fun i => kx_s sc rs (ic i)) (kf_fit oP a_number tk ic a_inA a_inB sc rs) fi →
    ∃ B tp' cn' ch' K' fe' st' fi' rw' rg' wr', kf_C md ni a_timed (fun i => kx_s sc rs (ic i)) (kf_fit oP a_number tk ic a_inA a_inB sc rs) fi' ∧ kn_H cn' ch' 32 ∧ kx_Z (kc_W ic ni nu a_amount (kf_fit oP a_number tk ic a_inA a_inB sc rs) nh hd pa he) bk pa he a_amount rw' rg' ch' tp' K' ∧ kx_V (kc_W ic ni nu a_amount (kf_fit oP a_number tk ic a_inA a_inB sc rs) nh hd pa he) bk rw' rg' wr' ∧ ch' tp' = B ∧ kb_M bk wk ar (fun c => ar c ≠ 0 ∧ wr' c = 0) B ∧
    ∀ post : SX → Prop, ((nI B = a_before hi → post (f_made, nI bk, f_arrivals, nI tp', f_many, f_agains, fe', a_op, a_number, a_tokens, a_used, a_timed, st', a_inCoin, a_inA, a_inB, a_ins, a_amount, a_script, a_outs, fi', a_parent, a_height, a_work, a_holds, a_held, a_rewardScript, rw', a_delivered, a_arrival, rg', wr', cn', K'.1, K'.2.1, K'.2.2.1, a_row, a_fees, a_taker, a_again, a_before)) ∧ (¬ nI B = a_before hi → wpX_renew (fun u => match u with | (f_made, f_blocks, f_arrivals, f_top, f_many, f_agains, f_feeNow, a_op, a_number, a_tokens, a_used, a_timed, a_stack, a_inCoin, a_inA, a_inB, a_ins, a_amount, a_script, a_outs, a_fitting, a_parent, a_height, a_work, a_holds, a_held, a_rewardScript, a_reward, a_delivered, a_arrival, a_right, a_wrong, a_chain, a_born, a_spent, a_since, a_row, a_fees, a_taker, a_again, a_before) => post (f_made, f_blocks, f_arrivals, f_top, f_many, f_agains, f_feeNow, a_op, a_number, a_tokens, a_used, a_timed, a_stack, a_inCoin, a_inA, a_inB, a_ins, a_amount, a_script, a_outs, a_fitting, a_parent, a_height, a_work, a_holds, a_held, a_rewardScript, a_reward, a_delivered, a_arrival, a_right, a_wrong, a_chain, a_born, a_spent, a_since, a_row, a_fees, a_taker, a_again, a_before)) (f_made, nI bk, f_arrivals, nI tp', f_many, f_agains, fe', a_op, a_number, a_tokens, a_used, a_timed, st', a_inCoin, a_inA, a_inB, a_ins, a_amount, a_script, a_outs, fi', a_parent, a_height, a_work, a_holds, a_held, a_rewardScript, rw', a_delivered, a_arrival, rg', wr', cn', K'.1, K'.2.1, K'.2.2.1, a_row, a_fees, a_taker, a_again, a_before) (nI hi))) → ∀ n, M < n → wX_choose_36 post (nI hi) n (nI b) f_made (nI bk) f_arrivals (nI tp) f_many f_agains fe a_op a_number a_tokens a_used a_timed st a_inCoin a_inA a_inB a_ins a_amount a_script a_outs fi a_parent a_height a_work a_holds a_held a_rewardScript rw a_delivered a_arrival rg wr cn K.1 K.2.1 K.2.2.1 a_row a_fees a_taker a_again a_before := by
  have b32 := kd_bk N
  have ehi : (nI hi).toNatClampNeg = hi := nI_clamp (by omega)
  have tl : ∀ {tp : Nat} {ch : Nat → Nat} {K : kc_K} {rw rg : Nat → Int32}, kx_Z (kc_W ic ni nu a_amount (kf_fit oP a_number tk ic a_inA a_inB sc rs) nh hd pa he) bk pa he a_amount rw rg ch tp K → tp < 32 := fun {tp ch K rw rg} Z => by
    have zt := Z.1.1 tp (Nat.le_refl _)
    rw [← zt.2]; exact kc_T_l (kd_T N) zt.1
  intro M
  induction M with
  | zero => intro b tp cn ch K fe st fi rw rg wr h; omega
  | succ M ih =>
    intro b tp cn ch K fe st fi rw rg wr hM Mb Hc Z V C
    have ht := tl Z
    have cl := kn_l Hc tp
    have bb := Mb.1
    by_cases eb : ch tp = b
    · refine ⟨b, tp, cn, ch, K, fe, st, fi, rw, rg, wr, C, Hc, Z, V, eb, Mb, fun post E n hn => ?_⟩
      obtain ⟨n, rfl⟩ : ∃ n', n = n' + 1 := ⟨n - 1, by omega⟩
      refine And.intro (pk_in tp 32 ht) ?_
      rw [kn_at Hc tp, eb]
      refine br_t rfl (And.intro (pk_in hi 32 h32) ?_)
      rw [ehi]; exact E
    · obtain ⟨tp1, cn1, ch1, K1, fe1, st1, fi1, rw1, rg1, wr1, C1, O, R⟩ := xx_reorganise (f_made := f_made) (f_arrivals := f_arrivals) (f_many := f_many) (f_agains := f_agains) (a_op := a_op) (a_number := a_number) (a_tokens := a_tokens) (a_used := a_used) (a_timed := a_timed) (a_inCoin := a_inCoin) (a_inA := a_inA) (a_inB := a_inB) (a_ins := a_ins) (a_amount := a_amount) (a_script := a_script) (a_outs := a_outs) (a_parent := a_parent) (a_height := a_height) (a_work := a_work) (a_holds := a_holds) (a_held := a_held) (a_rewardScript := a_rewardScript) (a_delivered := a_delivered) (a_arrival := a_arrival) (a_row := a_row) (a_fees := a_fees) (a_taker := a_taker) (a_again := a_again) (a_before := a_before) Mb.1 N D (fe := fe) (st := st) Hc V C Z
      obtain ⟨Hc1, Z1, V1, o1, o2, o3⟩ := O
      have w0 : wr1 0 = 0 := kx_V_0 V1 ⟨_, kc_W_zero N⟩
      have ht1 := tl Z1
      have step : ∀ (post : SX → Prop) (n : Nat), (∀ b2, kb_M bk wk ar (fun c => ar c ≠ 0 ∧ wr1 c = 0) b2 → wX_choose_36 post (nI hi) n (nI b2) f_made (nI bk) f_arrivals (nI tp1) f_many f_agains fe1 a_op a_number a_tokens a_used a_timed st1 a_inCoin a_inA a_inB a_ins a_amount a_script a_outs fi1 a_parent a_height a_work a_holds a_held a_rewardScript rw1 a_delivered a_arrival rg1 wr1 cn1 K1.1 K1.2.1 K1.2.2.1 a_row a_fees a_taker a_again a_before) → wX_choose_36 post (nI hi) (n + 1) (nI b) f_made (nI bk) f_arrivals (nI tp) f_many f_agains fe a_op a_number a_tokens a_used a_timed st a_inCoin a_inA a_inB a_ins a_amount a_script a_outs fi a_parent a_height a_work a_holds a_held a_rewardScript rw a_delivered a_arrival rg wr cn K.1 K.2.1 K.2.2.1 a_row a_fees a_taker a_again a_before := by
        intro post n W
        refine And.intro (pk_in tp 32 ht) ?_
        rw [kn_at Hc tp]
        exact pk_eq b (ch tp) (fun q => absurd q.symm eb) (fun _ => R _ (xx_best b32 (kd_T N).1 Hw Ha (kx_V_b V1) a0 w0 W))
      rcases o3 with ⟨s1, s2⟩ | ⟨s1, s2⟩
      · subst s2
        refine ⟨b, tp1, cn1, ch1, K1, fe1, st1, fi1, rw1, rg1, wr1, C1, Hc1, Z1, V1, s1, Mb, fun post E n hn => ?_⟩
        obtain ⟨n, rfl⟩ : ∃ n', n = n' + 2 := ⟨n - 2, by omega⟩
        refine step post (n + 1) (fun b2 M2 => ?_)
        have e2 := kb_u inj (fun c h => h.1) M2 Mb
        subst e2
        refine And.intro (pk_in tp1 32 ht1) ?_
        rw [kn_at Hc1 tp1, s1]
        refine br_t rfl (And.intro (pk_in hi 32 h32) ?_)
        rw [ehi]; exact E
      · obtain ⟨b2, M2⟩ := kb_exM (bk := bk) (wk := wk) (ar := ar) (ok := fun c => ar c ≠ 0 ∧ wr1 c = 0) (kd_T N).1 ⟨a0, w0⟩
        have lt : kz_cnt (fun c => wr1 c = 0) 32 < kz_cnt (fun c => wr c = 0) 32 := by
          refine kz_cnt_lt (a := b) (fun q => by rw [s2] at q; exact absurd q (by decide)) Mb.2.1.2 (fun k _ q => ?_) (by omega)
          rcases V.2 k with z | ⟨z, _⟩
          · exact z
          · rw [o2 k z] at q; exact absurd q (by decide)
        obtain ⟨B, tp', cn', ch', K', fe', st', fi', rw', rg', wr', C', Hc', Z', V', eB, MB, Q⟩ := ih b2 tp1 cn1 ch1 K1 fe1 st1 fi1 rw1 rg1 wr1 (by omega) M2 Hc1 Z1 V1 C1
        refine ⟨B, tp', cn', ch', K', fe', st', fi', rw', rg', wr', C', Hc', Z', V', eB, MB, fun post E n hn => ?_⟩
        obtain ⟨n, rfl⟩ : ∃ n', n = n' + 1 := ⟨n - 1, by omega⟩
        refine step post n (fun b3 M3 => ?_)
        have e3 := kb_u inj (fun c h => h.1) M3 M2
        subst e3
        exact Q post E n (by omega)
end
section
variable {f_made f_arrivals f_many f_agains : Int32} {a_op a_number a_tokens a_used a_timed a_inCoin a_inA a_inB a_ins a_amount a_script a_outs a_parent a_height a_work a_holds a_held a_rewardScript a_delivered a_arrival a_row a_fees a_taker a_again : Nat → Int32} {oP tk ic ni nu sc rs nh hd pa he : Nat → Nat} {md bk : Nat} {wk ar : Nat → Nat} {hi : Nat}
theorem xx_c7 {post : SX → Prop} {x1 : Int32} {tp : Nat} {cn : Nat → Int32} {ch : Nat → Nat} {K : kc_K} {fe : Int32} {st fi rw rg wr : Nat → Int32} (Hc : kn_H cn ch 32) : ∀ (m i : Nat) (bf : Nat → Int32) (n : Nat), i + m = 32 → m < n →
    wpX_best (fun r => ∃ n36 : Nat, wX_choose_36 post x1 n36 r f_made (nI bk) f_arrivals (nI tp) f_many f_agains fe a_op a_number a_tokens a_used a_timed st a_inCoin a_inA a_inB a_ins a_amount a_script a_outs fi a_parent a_height a_work a_holds a_held a_rewardScript rw a_delivered a_arrival rg wr cn K.1 K.2.1 K.2.2.1 a_row a_fees a_taker a_again (kc_sg (fun j => j) cn m i bf)) (f_made, nI bk, f_arrivals, nI tp, f_many, f_agains, fe, a_op, a_number, a_tokens, a_used, a_timed, st, a_inCoin, a_inA, a_inB, a_ins, a_amount, a_script, a_outs, fi, a_parent, a_height, a_work, a_holds, a_held, a_rewardScript, rw, a_delivered, a_arrival, rg, wr, cn, K.1, K.2.1, K.2.2.1, a_row, a_fees, a_taker, a_again, kc_sg (fun j => j) cn m i bf) →
    wX_choose_7 post x1 f_made (nI bk) f_arrivals (nI tp) f_many f_agains fe n (nI i) a_op a_number a_tokens a_used a_timed st a_inCoin a_inA a_inB a_ins a_amount a_script a_outs fi a_parent a_height a_work a_holds a_held a_rewardScript rw a_delivered a_arrival rg wr cn K.1 K.2.1 K.2.2.1 a_row a_fees a_taker a_again bf := by
  intro m
  induction m with
  | zero =>
    intro i bf n e hn hp
    obtain ⟨n, rfl⟩ : ∃ n', n = n' + 1 := ⟨n - 1, by omega⟩
    exact pk_le 32 i (fun _ => hp) (fun z => by omega)
  | succ m ih =>
    intro i bf n e hn hp
    obtain ⟨n, rfl⟩ : ∃ n', n = n' + 1 := ⟨n - 1, by omega⟩
    have cl := kn_l Hc i
    refine pk_le 32 i (fun z => by omega) (fun _ => And.intro (pk_in i 32 (by omega)) (And.intro (pk_in i 32 (by omega)) (nm_r (e' := upd bf i (cn i)) ?_ (nm_r (nI_1 i) (ih (i + 1) _ n (by omega) (by omega) hp)))))
    rw [kn_at Hc i, kn_vb (ch i), kn_ux i, kn_e Hc i]
theorem xx_choose (Hw : kn_H a_work wk 400) (Ha : kn_H a_arrival ar 33) (a0 : ar 0 ≠ 0) (inj : ∀ b c, b < bk → c < bk → ar b ≠ 0 → ar b = ar c → b = c) (N : kd_N oP tk ic ni nu sc rs nh hd pa he md bk) (D : kx_D a_op a_number a_tokens a_timed a_inCoin a_ins a_outs a_script a_rewardScript a_holds a_held a_parent a_height oP tk ic ni nu sc rs nh hd pa he)
    {tp : Nat} {cn : Nat → Int32} {ch : Nat → Nat} {K : kc_K} {fe : Int32} {st fi rw rg wr bf : Nat → Int32} (Hc : kn_H cn ch 32) (Z : kx_Z (kc_W ic ni nu a_amount (kf_fit oP a_number tk ic a_inA a_inB sc rs) nh hd pa he) bk pa he a_amount rw rg ch tp K) (V : kx_V (kc_W ic ni nu a_amount (kf_fit oP a_number tk ic a_inA a_inB sc rs) nh hd pa he) bk rw rg wr) (C : kf_C md ni a_timed (fun i => kx_s sc rs (ic i)) (kf_fit oP a_number tk ic a_inA a_inB sc rs) fi) :
    ∃ B tp' cn' ch' K' fe' st' fi' rw' rg' wr' bf', kf_C md ni a_timed (fun i => kx_s sc rs (ic i)) (kf_fit oP a_number tk ic a_inA a_inB sc rs) fi' ∧ kn_H cn' ch' 32 ∧ kx_Z (kc_W ic ni nu a_amount (kf_fit oP a_number tk ic a_inA a_inB sc rs) nh hd pa he) bk pa he a_amount rw' rg' ch' tp' K' ∧ kx_V (kc_W ic ni nu a_amount (kf_fit oP a_number tk ic a_inA a_inB sc rs) nh hd pa he) bk rw' rg' wr' ∧ ch' tp' = B ∧ kb_M bk wk ar (fun c => ar c ≠ 0 ∧ wr' c = 0) B ∧ (∀ h, h ≤ tp → bf' h = nI (ch h)) ∧
    ∀ post : SX → Prop, ((B = ch tp → post (f_made, nI bk, f_arrivals, nI tp', f_many, f_agains, fe', a_op, a_number, a_tokens, a_used, a_timed, st', a_inCoin, a_inA, a_inB, a_ins, a_amount, a_script, a_outs, fi', a_parent, a_height, a_work, a_holds, a_held, a_rewardScript, rw', a_delivered, a_arrival, rg', wr', cn', K'.1, K'.2.1, K'.2.2.1, a_row, a_fees, a_taker, a_again, bf')) ∧ (¬ B = ch tp → wpX_renew (fun u => match u with | (f_made, f_blocks, f_arrivals, f_top, f_many, f_agains, f_feeNow, a_op, a_number, a_tokens, a_used, a_timed, a_stack, a_inCoin, a_inA, a_inB, a_ins, a_amount, a_script, a_outs, a_fitting, a_parent, a_height, a_work, a_holds, a_held, a_rewardScript, a_reward, a_delivered, a_arrival, a_right, a_wrong, a_chain, a_born, a_spent, a_since, a_row, a_fees, a_taker, a_again, a_before) => post (f_made, f_blocks, f_arrivals, f_top, f_many, f_agains, f_feeNow, a_op, a_number, a_tokens, a_used, a_timed, a_stack, a_inCoin, a_inA, a_inB, a_ins, a_amount, a_script, a_outs, a_fitting, a_parent, a_height, a_work, a_holds, a_held, a_rewardScript, a_reward, a_delivered, a_arrival, a_right, a_wrong, a_chain, a_born, a_spent, a_since, a_row, a_fees, a_taker, a_again, a_before)) (f_made, nI bk, f_arrivals, nI tp', f_many, f_agains, fe', a_op, a_number, a_tokens, a_used, a_timed, st', a_inCoin, a_inA, a_inB, a_ins, a_amount, a_script, a_outs, fi', a_parent, a_height, a_work, a_holds, a_held, a_rewardScript, rw', a_delivered, a_arrival, rg', wr', cn', K'.1, K'.2.1, K'.2.2.1, a_row, a_fees, a_taker, a_again, bf') (nI tp))) → wpX_choose post (f_made, nI bk, f_arrivals, nI tp, f_many, f_agains, fe, a_op, a_number, a_tokens, a_used, a_timed, st, a_inCoin, a_inA, a_inB, a_ins, a_amount, a_script, a_outs, fi, a_parent, a_height, a_work, a_holds, a_held, a_rewardScript, rw, a_delivered, a_arrival, rg, wr, cn, K.1, K.2.1, K.2.2.1, a_row, a_fees, a_taker, a_again, bf) := by
  have b32 := kd_bk N
  have zt := Z.1.1 tp (Nat.le_refl _)
  have ht : tp < 32 := by rw [← zt.2]; exact kc_T_l (kd_T N) zt.1
  have w0 : wr 0 = 0 := kx_V_0 V ⟨_, kc_W_zero N⟩
  have ebf : ∀ h, h < 32 → kc_sg (fun j => j) cn 32 0 bf h = nI (ch h) := fun h hh => by
    rw [kc_sg_cp _ _ _ (by omega) (by omega)]; exact kn_e Hc h
  obtain ⟨b, Mb⟩ := kb_exM (bk := bk) (wk := wk) (ar := ar) (ok := fun c => ar c ≠ 0 ∧ wr c = 0) (kd_T N).1 ⟨a0, w0⟩
  obtain ⟨B, tp', cn', ch', K', fe', st', fi', rw', rg', wr', C', Hc', Z', V', eB, MB, Q⟩ := xx_c36 (f_made := f_made) (f_arrivals := f_arrivals) (f_many := f_many) (f_agains := f_agains) (a_op := a_op) (a_number := a_number) (a_tokens := a_tokens) (a_used := a_used) (a_timed := a_timed) (a_inCoin := a_inCoin) (a_inA := a_inA) (a_inB := a_inB) (a_ins := a_ins) (a_amount := a_amount) (a_script := a_script) (a_outs := a_outs) (a_parent := a_parent) (a_height := a_height) (a_work := a_work) (a_holds := a_holds) (a_held := a_held) (a_rewardScript := a_rewardScript) (a_delivered := a_delivered) (a_arrival := a_arrival) (a_row := a_row) (a_fees := a_fees) (a_taker := a_taker) (a_again := a_again) (a_before := kc_sg (fun j => j) cn 32 0 bf) Hw Ha a0 inj ht N D 33 b tp cn ch K fe st fi rw rg wr (by have := kz_cnt_le (fun c => wr c = 0) 32; omega) Mb Hc Z V C
  refine ⟨B, tp', cn', ch', K', fe', st', fi', rw', rg', wr', _, C', Hc', Z', V', eB, MB, fun h hh => ebf h (by omega), fun post E => ?_⟩
  refine ⟨33, xx_c7 Hc 32 0 bf _ rfl (by omega) ?_⟩
  refine xx_best b32 (kd_T N).1 Hw Ha (kx_V_b V) a0 w0 (fun b2 M2 => ⟨34, ?_⟩)
  have e2 := kb_u inj (fun c h => h.1) M2 Mb
  subst e2
  refine Q post ?_ _ (by omega)
  rw [ebf tp ht]
  have Bl := MB.1
  exact pk_eq B (ch tp) (fun q => E.1 q) (fun q => E.2 q) rfl rfl (by omega) (by have := zt.1; omega)
end
end
section
/-! ===== both: a block has arrived ===== -/
theorem kp_X_rw {ic ni nu hd : Nat → Nat} {am rw rw' : Nat → Int32} {md mn : Nat} {K : kc_K} {row : Nat → Nat} {fs tr : Nat → Int32} (D : kc_D ic ni nu hd) (P : kp_P ic ni md K row mn) (A : kc_A K (kc_av am rw)) (A' : kc_A K (kc_av am rw')) (X : kp_X ic ni nu am rw row mn fs tr) : kp_X ic ni nu am rw' row mn fs tr := by
  refine ⟨fun k hk => ?_, X.2⟩
  rw [X.1 k hk]
  unfold kc_fee
  rw [kc_sum_cg (g' := fun i => kc_av am rw' (ic i)) _ _ _ (fun j h1 h2 => ?_)]
  rcases P.2.2.2.1 k hk j h1 h2 with q | q
  · rw [A _ (D.1 j) q, A' _ (D.1 j) q]
  · unfold kc_av; rw [if_pos q.1, if_pos q.1]
section
variable {f_arrivals : Int32} {a_op a_number a_tokens a_used a_timed a_inCoin a_inA a_inB a_ins a_amount a_script a_outs a_parent a_height a_work a_holds a_held a_rewardScript a_delivered a_arrival : Nat → Int32} {g_arrivals : Int32} {b_parent b_work b_arrived : Nat → Int32} {oP tk ic ni nu sc rs nh hd pa he : Nat → Nat} {md bk : Nat} {wk ar : Nat → Nat}
theorem zz_choose (N : kd_N oP tk ic ni nu sc rs nh hd pa he md bk) (D : kx_D a_op a_number a_tokens a_timed a_inCoin a_ins a_outs a_script a_rewardScript a_holds a_held a_parent a_height oP tk ic ni nu sc rs nh hd pa he) (hp0 : b_parent 0 = -1) (hp1 : ∀ i, 0 < i → b_parent i = a_parent i) (Hw : kn_H a_work wk 400) (Hy : ky_W bk pa wk b_work) (Ha : kn_H a_arrival ar 33) (Hb : ∀ b, b < 32 → b_arrived b = nI (ar b) - 1) (a0 : ar 0 ≠ 0) (inj : ∀ b c, b < bk → c < bk → ar b ≠ 0 → ar b = ar c → b = c)
    {tp mn : Nat} {ch row : Nat → Nat} {K : kc_K} {fe cl : Int32} {st fi rw rg wr cn ra fs tr ag bf yc fr w wi sp ys ya yo : Nat → Int32}
    (Hc : kn_H cn ch 32) (Z : kx_Z (kc_W ic ni nu a_amount (kf_fit oP a_number tk ic a_inA a_inB sc rs) nh hd pa he) bk pa he a_amount rw rg ch tp K) (V : kx_V (kc_W ic ni nu a_amount (kf_fit oP a_number tk ic a_inA a_inB sc rs) nh hd pa he) bk rw rg wr) (C : kf_C md ni a_timed (fun i => kx_s sc rs (ic i)) (kf_fit oP a_number tk ic a_inA a_inB sc rs) fi) (Hr : kn_H ra row 40) (P : kp_P ic ni md K row mn) (X : kp_X ic ni nu a_amount rw row mn fs tr) (T : ky_T fr sp wi) :
    ∃ (tp' mn' : Nat) (ch' row' : Nat → Nat) (K' : kc_K) (fe' cl' : Int32) (st' fi' rw' rg' wr' cn' ra' fs' tr' ag' bf' yc' fr' w' wi' sp' ys' ya' : Nat → Int32),
    kn_H cn' ch' 32 ∧ kx_Z (kc_W ic ni nu a_amount (kf_fit oP a_number tk ic a_inA a_inB sc rs) nh hd pa he) bk pa he a_amount rw' rg' ch' tp' K' ∧ kx_V (kc_W ic ni nu a_amount (kf_fit oP a_number tk ic a_inA a_inB sc rs) nh hd pa he) bk rw' rg' wr' ∧ kf_C md ni a_timed (fun i => kx_s sc rs (ic i)) (kf_fit oP a_number tk ic a_inA a_inB sc rs) fi' ∧ kn_H ra' row' 40 ∧ kp_P ic ni md K' row' mn' ∧ kp_X ic ni nu a_amount rw' row' mn' fs' tr' ∧ ky_T fr' sp' wi' ∧
    (∀ post : SX → Prop, post (nI md, nI bk, f_arrivals, nI tp', nI mn', 0, fe', a_op, a_number, a_tokens, a_used, a_timed, st', a_inCoin, a_inA, a_inB, a_ins, a_amount, a_script, a_outs, fi', a_parent, a_height, a_work, a_holds, a_held, a_rewardScript, rw', a_delivered, a_arrival, rg', wr', cn', K'.1, K'.2.1, K'.2.2.1, ra', fs', tr', ag', bf') → wpX_choose post (nI md, nI bk, f_arrivals, nI tp, nI mn, 0, fe, a_op, a_number, a_tokens, a_used, a_timed, st, a_inCoin, a_inA, a_inB, a_ins, a_amount, a_script, a_outs, fi, a_parent, a_height, a_work, a_holds, a_held, a_rewardScript, rw, a_delivered, a_arrival, rg, wr, cn, K.1, K.2.1, K.2.2.1, ra, fs, tr, ag, bf)) ∧ (∀ post : SY → Prop, post (nI md, nI bk, g_arrivals, nI (ch' tp'), nI mn', cl', a_op, a_number, a_tokens, a_ins, a_inCoin, a_inA, a_inB, a_outs, a_amount, a_script, b_parent, b_work, a_rewardScript, a_height, a_holds, a_held, a_delivered, b_arrived, ra', yc', fr', w', wi', sp', ys', ya', yo) → wpY_findTip post (nI md, nI bk, g_arrivals, nI (ch tp), nI mn, cl, a_op, a_number, a_tokens, a_ins, a_inCoin, a_inA, a_inB, a_outs, a_amount, a_script, b_parent, b_work, a_rewardScript, a_height, a_holds, a_held, a_delivered, b_arrived, ra, yc, fr, w, wi, sp, ys, ya, yo)) := by
  have b32 := kd_bk N
  have m40 := kd_md N
  have DY := dx_dy D hp0 hp1
  have zt := Z.1.1 tp (Nat.le_refl _)
  have ht : tp < 32 := by rw [← zt.2]; exact kc_T_l (kd_T N) zt.1
  obtain ⟨B, tp', cn', ch', K', fe', st', fi', rw', rg', wr', bf', C', Hc', Z', V', eB, MB, hbf, Q⟩ := xx_choose (f_made := nI md) (f_arrivals := f_arrivals) (f_many := nI mn) (f_agains := 0) (a_op := a_op) (a_number := a_number) (a_tokens := a_tokens) (a_used := a_used) (a_timed := a_timed) (a_inCoin := a_inCoin) (a_inA := a_inA) (a_inB := a_inB) (a_ins := a_ins) (a_amount := a_amount) (a_script := a_script) (a_outs := a_outs) (a_parent := a_parent) (a_height := a_height) (a_work := a_work) (a_holds := a_holds) (a_held := a_held) (a_rewardScript := a_rewardScript) (a_delivered := a_delivered) (a_arrival := a_arrival) (a_row := ra) (a_fees := fs) (a_taker := tr) (a_again := ag) Hw Ha a0 inj N D (fe := fe) (st := st) (bf := bf) Hc Z V C
  have zt' := Z'.1.1 tp' (Nat.le_refl _)
  have WB : kc_W ic ni nu a_amount (kf_fit oP a_number tk ic a_inA a_inB sc rs) nh hd pa he B = some K' := by rw [← eB]; exact Z'.2.1
  -- Y's scan finds the same block
  have MY : kb_M bk wk ar (fun c => ar c ≠ 0 ∧ (kc_W ic ni nu a_amount (kf_fit oP a_number tk ic a_inA a_inB sc rs) nh hd pa he c).isSome = true) B := by
    refine ⟨MB.1, ⟨MB.2.1.1, by rw [WB]; rfl⟩, fun c hc oc => MB.2.2 c hc ⟨oc.1, kx_V_0 V' ?_⟩⟩
    cases q : kc_W ic ni nu a_amount (kf_fit oP a_number tk ic a_inA a_inB sc rs) nh hd pa he c with
    | none => have := oc.2; rw [q] at this; exact nomatch this
    | some K => exact ⟨K, rfl⟩
  obtain ⟨B2, cl1, yc1, fr1, w1, wi1, sp1, ys1, M2, T1, R1⟩ := yy_t4 (g_made := nI md) (g_arrivals := g_arrivals) (b_op := a_op) (b_arg := a_number) (b_length := a_tokens) (b_ins := a_ins) (b_inCoin := a_inCoin) (b_inA := a_inA) (b_inB := a_inB) (b_outs := a_outs) (b_amount := a_amount) (b_lock := a_script) (b_parent := b_parent) (b_work := b_work) (b_rewardLock := a_rewardScript) (b_height := a_height) (b_many := a_holds) (b_holds := a_held) (b_delivered := a_delivered) (b_arrived := b_arrived) (b_pool := ra) (b_chosen := yo) (g_tip := nI (ch tp)) (g_pooled := nI mn) (b_again := ya) N DY Hy (kn_l Hw) (fun b hb => ⟨Hb b hb, kn_l Ha b⟩) bk 0 0 cl yc fr w wi sp ys (by omega) (kd_T N).1 ⟨a0, by rw [kc_W_zero N]; rfl⟩ (fun c hc => by omega) T
  have e2 := kb_u inj (fun c h => h.1) M2 MY
  subst e2
  have hx : ∀ post : SY → Prop, ((B2 = ch tp → post (nI md, nI bk, g_arrivals, nI (ch tp), nI mn, cl1, a_op, a_number, a_tokens, a_ins, a_inCoin, a_inA, a_inB, a_outs, a_amount, a_script, b_parent, b_work, a_rewardScript, a_height, a_holds, a_held, a_delivered, b_arrived, ra, yc1, fr1, w1, wi1, sp1, ys1, ya, yo)) ∧
      (¬ B2 = ch tp → wpY_walk (fun _ u => match u with | (g_made, g_blocks, g_arrivals, g_tip, g_pooled, g_chainLength, b_op, b_arg, b_length, b_ins, b_inCoin, b_inA, b_inB, b_outs, b_amount, b_lock, b_parent, b_work, b_rewardLock, b_height, b_many, b_holds, b_delivered, b_arrived, b_pool, b_chain, b_from, b_worth, b_within, b_spent, b_stack, b_again, b_chosen) => (∃ n97 : Nat, wY_findTip_97 post (nI B2) g_made g_blocks g_arrivals g_tip g_pooled g_chainLength n97 0 0 b_op b_arg b_length b_ins b_inCoin b_inA b_inB b_outs b_amount b_lock b_parent b_work b_rewardLock b_height b_many b_holds b_delivered b_arrived b_pool b_chain b_from b_worth b_within b_spent b_stack b_again b_chosen)) (nI md, nI bk, g_arrivals, nI (ch tp), nI mn, cl1, a_op, a_number, a_tokens, a_ins, a_inCoin, a_inA, a_inB, a_outs, a_amount, a_script, b_parent, b_work, a_rewardScript, a_height, a_holds, a_held, a_delivered, b_arrived, ra, yc1, fr1, w1, wi1, sp1, ys1, ya, yo) (nI (ch tp)))) → wpY_findTip post (nI md, nI bk, g_arrivals, nI (ch tp), nI mn, cl, a_op, a_number, a_tokens, a_ins, a_inCoin, a_inA, a_inB, a_outs, a_amount, a_script, b_parent, b_work, a_rewardScript, a_height, a_holds, a_held, a_delivered, b_arrived, ra, yc, fr, w, wi, sp, ys, ya, yo) := by
    intro post E
    refine ⟨bk + 1, R1 post (fun n => ?_) _ (by omega)⟩
    have := MB.1
    have := zt.1
    exact pk_le bk bk (fun _ => pk_eq B2 (ch tp) (fun q => E.1 q) (fun q => E.2 q)) (fun z => by omega)
  by_cases same : B2 = ch tp
  · have eK : K' = K := by
      rw [same, Z.2.1] at WB
      exact (Option.some.inj WB).symm
    subst eK
    have et : tp' = tp := by rw [← zt'.2, eB, same, zt.2]
    subst et
    have ec : ch tp' = ch' tp' := by rw [eB, same]
    refine ⟨tp', mn, ch', row, K', fe', cl1, st', fi', rw', rg', wr', cn', ra, fs, tr, ag, bf', yc1, fr1, w1, wi1, sp1, ys1, ya, Hc', Z', V', C', Hr, P, kp_X_rw (kd_D N) P Z.2.2.1 Z'.2.2.1 X, T1, fun post hp => Q post ⟨fun _ => hp, fun q => absurd same q⟩, fun post hp => hx post ⟨fun _ => ?_, fun q => absurd same q⟩⟩
    rw [ec]; exact hp
  · have Ik := kc_W_nt (kd_D N) (kd_T N) zt.1 Z.2.1
    have h40 : (kz_T nh hd ch (tp + 1)).length ≤ 40 := by
      rw [kz_T_n tp Z.1]
      rw [zt.2] at Ik; exact Ik
    -- X's list
    obtain ⟨lx, ag', hA, hs, hl, RX⟩ := xx_rn (f_made := nI md) (f_blocks := nI bk) (f_arrivals := f_arrivals) (f_top := nI tp') (f_feeNow := fe') (a_op := a_op) (a_number := a_number) (a_tokens := a_tokens) (a_used := a_used) (a_timed := a_timed) (a_stack := st') (a_inCoin := a_inCoin) (a_inA := a_inA) (a_inB := a_inB) (a_ins := a_ins) (a_amount := a_amount) (a_script := a_script) (a_outs := a_outs) (a_fitting := fi') (a_parent := a_parent) (a_height := a_height) (a_work := a_work) (a_holds := a_holds) (a_held := a_held) (a_rewardScript := a_rewardScript) (a_reward := rw') (a_delivered := a_delivered) (a_arrival := a_arrival) (a_right := rg') (a_wrong := wr') (a_chain := cn') (a_born := K'.1) (a_spent := K'.2.1) (a_since := K'.2.2.1) (a_row := ra) (a_fees := fs) (a_taker := tr) (a_before := bf') (ag := ag) ht P.1 Hr N D Z.1 hbf h40
    -- Y goes through the old chain
    obtain ⟨Y1, _⟩ := yy_walk (g_made := nI md) (g_arrivals := g_arrivals) (b_op := a_op) (b_arg := a_number) (b_length := a_tokens) (b_ins := a_ins) (b_inCoin := a_inCoin) (b_inA := a_inA) (b_inB := a_inB) (b_outs := a_outs) (b_amount := a_amount) (b_lock := a_script) (b_parent := b_parent) (b_work := b_work) (b_rewardLock := a_rewardScript) (b_height := a_height) (b_many := a_holds) (b_holds := a_held) (b_delivered := a_delivered) (b_arrived := b_arrived) (b_pool := ra) (b_chosen := yo) (g_blocks := nI bk) (g_tip := nI (ch tp)) (g_pooled := nI mn) (g_chainLength := cl1) (b_chain := yc1) (b_from := fr1) (b_worth := w1) (b_within := wi1) (b_spent := sp1) (b_stack := ys1) (b_again := ya) zt.1 N DY T1
    obtain ⟨w2, yq2, c2, C2, ce2, A2, W2⟩ := Y1 K Z.2.1
    rw [zt.2] at C2 ce2 W2
    have cc : ∀ h, h ≤ tp → c2 h = ch h := kc_ch_u C2 Z.1 ce2
    have hyc : ∀ h, h ≤ tp → (fun j => if j ≤ tp then nI (c2 j) else yc1 j) h = nI (ch h) := fun h hh => by
      show (if h ≤ tp then nI (c2 h) else yc1 h) = _
      rw [if_pos hh, cc h hh]
    obtain ⟨ya', hAy, RY⟩ := yy_f97 (g_made := nI md) (g_arrivals := g_arrivals) (b_op := a_op) (b_arg := a_number) (b_length := a_tokens) (b_ins := a_ins) (b_inCoin := a_inCoin) (b_inA := a_inA) (b_inB := a_inB) (b_outs := a_outs) (b_amount := a_amount) (b_lock := a_script) (b_parent := b_parent) (b_work := b_work) (b_rewardLock := a_rewardScript) (b_height := a_height) (b_many := a_holds) (b_holds := a_held) (b_delivered := a_delivered) (b_arrived := b_arrived) (b_pool := ra) (b_chosen := yo) (g_blocks := nI bk) (g_tip := nI (ch tp)) (b_chain := fun j => if j ≤ tp then nI (c2 j) else yc1 j) (b_from := K.1) (b_worth := w2) (b_within := K.2.2.1) (b_spent := K.2.1) (b_stack := yq2) (B := nI B2) ht P.1 Hr N DY Z.1 hyc h40 (tp + 1) 0 ya (by omega) (fun i hi => by simp [kz_T] at hi)
    have T2 : ky_T K.1 K.2.1 K.2.2.1 := ky_TI (kc_W_I' (kd_D N) (kd_T N) zt.1 Z.2.1)
    -- .. and through the new one
    obtain ⟨Y3, _⟩ := yy_walk (g_made := nI md) (g_arrivals := g_arrivals) (b_op := a_op) (b_arg := a_number) (b_length := a_tokens) (b_ins := a_ins) (b_inCoin := a_inCoin) (b_inA := a_inA) (b_inB := a_inB) (b_outs := a_outs) (b_amount := a_amount) (b_lock := a_script) (b_parent := b_parent) (b_work := b_work) (b_rewardLock := a_rewardScript) (b_height := a_height) (b_many := a_holds) (b_holds := a_held) (b_delivered := a_delivered) (b_arrived := b_arrived) (b_pool := ra) (b_chosen := yo) (g_blocks := nI bk) (g_tip := nI B2) (g_pooled := 0) (g_chainLength := nI (tp + 1)) (b_chain := fun j => if j ≤ tp then nI (c2 j) else yc1 j) (b_from := K.1) (b_worth := w2) (b_within := K.2.2.1) (b_spent := K.2.1) (b_stack := yq2) (b_again := ya') MB.1 N DY T2
    obtain ⟨w3, ys3, c3, C3, ce3, A3, W3⟩ := Y3 K' WB
    have hb2 : he B2 = tp' := by rw [← eB]; exact zt'.2
    have I' := kc_W_I' (kd_D N) (kd_T N) MB.1 WB
    rw [hb2] at I'
    have P0 : kp_P ic ni md K' row 0 := ⟨by omega, fun k hk => by omega, fun j k hj => by omega, fun k hk => by omega, fun j k c hj => by omega⟩
    have X0 : kp_X ic ni nu a_amount rw' row 0 fs (kc_sg (fun j => j) (fun _ => -1) 152 0 tr) := ⟨fun k hk => by omega, fun c hc => Or.inl ⟨kc_sg_in _ _ _ ⟨c, by omega, by omega, rfl⟩, fun k hk => by omega⟩⟩
    have mem : ∀ t, t ∈ kz_T nh hd ch (tp + 1) ++ kz_R row mn → t < md := by
      intro t h
      rw [List.mem_append] at h
      rcases h with h | h
      · exact kz_T_a (p := fun t => t < md) (tp + 1) (fun h hh i hi => kd_hd N (Z.1.1 h (by omega)).1 hi) t h
      · exact kz_R_a (p := fun t => t < md) mn (fun i hi => (P.2.1 i hi).1) t h
    have l12 := P.1
    have ll : (kz_T nh hd ch (tp + 1) ++ kz_R row mn).length ≤ 52 := by rw [List.length_append, kz_R_l]; omega
    obtain ⟨mn', row', fe2, st2, fi2, ra', fs', tr', ys', C2', Hr', P', X', GX, GY⟩ := zz_proc (f_arrivals := f_arrivals) (a_op := a_op) (a_number := a_number) (a_tokens := a_tokens) (a_used := a_used) (a_timed := a_timed) (a_inCoin := a_inCoin) (a_inA := a_inA) (a_inB := a_inB) (a_ins := a_ins) (a_amount := a_amount) (a_script := a_script) (a_outs := a_outs) (a_parent := a_parent) (a_height := a_height) (a_work := a_work) (a_holds := a_holds) (a_held := a_held) (a_rewardScript := a_rewardScript) (a_delivered := a_delivered) (a_arrival := a_arrival) (a_again := ag') (a_before := bf') (g_arrivals := g_arrivals) (b_parent := b_parent) (b_work := b_work) (b_arrived := b_arrived) (rg := rg') (wr := wr') (cn := cn') (yc := fun j => if j ≤ he B2 then nI (c3 j) else (fun j => if j ≤ tp then nI (c2 j) else yc1 j) j) (ya := ya') (yo := yo) (cl := nI (he B2 + 1)) MB.1 hb2 N D DY (kc_I_up I' (by omega)) Z'.2.2.1 A3 _ lx 0 0 0 row fe' st' fi' ra fs (kc_sg (fun j => j) (fun _ => -1) 152 0 tr) ys3 hs mem hA hAy (by omega) (by omega) Hr P0 X0 C'
    rw [Nat.zero_add] at GX GY
    rw [hb2] at W3 GY
    refine ⟨tp', mn', ch', row', K', fe2, nI (tp' + 1), st2, fi2, rw', rg', wr', cn', ra', fs', tr', ag', bf', (fun j => if j ≤ tp' then nI (c3 j) else (fun j => if j ≤ tp then nI (c2 j) else yc1 j) j), K'.1, w3, K'.2.2.1, K'.2.1, ys', ya', Hc', Z', V', C2', Hr', P', X', ky_TI I', fun post hp => Q post ⟨fun q => absurd q same, fun _ => RX _ ⟨lx.length + 1, GX _ hp _ (by omega)⟩⟩, fun post hp => hx post ⟨fun q => absurd q same, fun _ => ?_⟩⟩
    refine W2 _ ⟨tp + 2, RY post ?_ _ (by omega)⟩
    refine W3 _ ⟨53, GY post ?_ _ (by omega)⟩
    rw [eB] at hp
    exact hp
end
end
section
/-! ===== both: blocks arrive ===== -/
def zr_B (bk an : Nat) (pa wk ar : Nat → Nat) (a_parent a_work a_arrival b_parent b_work b_arrived : Nat → Int32) : Prop :=
  b_parent 0 = -1 ∧ (∀ i, 0 < i → b_parent i = a_parent i) ∧ kn_H a_work wk 400 ∧ ky_W bk pa wk b_work ∧ kn_H a_arrival ar 33 ∧ (∀ b, b < 32 → b_arrived b = nI (ar b) - 1) ∧ ar 0 ≠ 0 ∧
  (∀ b c, b < bk → c < bk → ar b ≠ 0 → ar b = ar c → b = c) ∧ (∀ b, ar b ≤ an) ∧ an = kz_cnt (fun b => ar b ≠ 0) 32 ∧ (∀ b, bk ≤ b → ar b = 0) ∧ (∀ b, b < bk → wk b ≤ 1 + 9 * b)
theorem kz_cnt_add {P : Nat → Prop} {a N : Nat} (hp : ¬ P a) (h : a < N) : kz_cnt (fun k => P k ∨ k = a) N = kz_cnt P N + 1 := cn_add hp h
theorem kz_cnt_eq {P Q : Nat → Prop} {N : Nat} (h : ∀ k, k < N → (P k ↔ Q k)) : kz_cnt P N = kz_cnt Q N := cn_eq h
theorem zr_B_arr {bk an b : Nat} {pa wk ar : Nat → Nat} {a_parent a_work a_arrival b_parent b_work b_arrived : Nat → Int32} (b32 : bk ≤ 32) (hb : b < bk) (h0 : ar b = 0) (R : zr_B bk an pa wk ar a_parent a_work a_arrival b_parent b_work b_arrived) :
    an + 1 ≤ 32 ∧ zr_B bk (an + 1) pa wk (kn_u ar b (an + 1)) a_parent a_work (upd a_arrival b (nI (an + 1))) b_parent b_work (upd b_arrived b (nI an)) := by
  obtain ⟨r1, r2, r3, r4, r5, r6, r7, r8, r9, r10, r11, r12⟩ := R
  have ec : kz_cnt (fun x => kn_u ar b (an + 1) x ≠ 0) 32 = an + 1 := by
    have e1 := kz_cnt_add (P := fun x => ar x ≠ 0) (a := b) (N := 32) (fun q => q h0) (by omega)
    rw [← r10] at e1
    refine Eq.trans (kz_cnt_eq (Q := fun k => ar k ≠ 0 ∨ k = b) (fun x hx => ?_)) e1
    by_cases q : x = b
    · subst q; rw [kn_us]; exact ⟨fun _ => Or.inr rfl, fun _ => Nat.succ_ne_zero _⟩
    · rw [kn_un q]; exact ⟨Or.inl, fun z => z.elim id (fun y => absurd y q)⟩
  have le : an + 1 ≤ 32 := by rw [← ec]; exact kz_cnt_le _ _
  refine ⟨le, r1, r2, r3, r4, kn_upd r5 rfl (by omega), fun x hx => ?_, ?_, fun x y hx hy hz e => ?_, fun x => ?_, ec.symm, fun x hx => ?_, r12⟩
  · by_cases q : x = b
    · subst q; rw [pk_us, kn_us, nI_pred]
    · rw [pk_un q, kn_un q]; exact r6 x hx
  · by_cases q : 0 = b
    · rw [← q, kn_us]; omega
    · rw [kn_un q]; exact r7
  · by_cases q1 : x = b
    · by_cases q2 : y = b
      · omega
      · rw [q1, kn_us, kn_un q2] at e; have := r9 y; omega
    · by_cases q2 : y = b
      · rw [q2, kn_us, kn_un q1] at e; have := r9 x; omega
      · rw [kn_un q1] at hz
        rw [kn_un q1, kn_un q2] at e; exact r8 x y hx hy hz e
  · by_cases q : x = b
    · subst q; rw [kn_us]; omega
    · rw [kn_un q]; have := r9 x; omega
  · rw [kn_un (by omega)]; exact r11 x hx
section
variable {g_made g_arrivals g_tip g_pooled g_chainLength : Int32} {b_op b_arg b_length b_ins b_inCoin b_inA b_inB b_outs b_amount b_lock b_parent b_work b_rewardLock b_height b_many b_holds b_delivered b_arrived b_pool b_chain b_from b_worth b_within b_spent b_stack b_again b_chosen : Nat → Int32} {oP tk ic ni nu sc rs nh hd pa he : Nat → Nat} {md bk : Nat} {ar : Nat → Nat}
/-- Y looks for the next block -/
theorem yy_a12 {x1 : Int32} (b32 : bk ≤ 32) (Hb : ∀ b, b < 32 → b_arrived b = nI (ar b) - 1) (al : ∀ b, ar b < 100) (Hp : ∀ i, 0 < i → b_parent i = nI (pa i) ∧ pa i < 32) :
    ∀ (m i : Nat), i + m = bk → 1 ≤ i →
    (∀ b, i ≤ b → b < bk → kb_can b_delivered ar pa b → (∀ c, i ≤ c → c < b → ¬ kb_can b_delivered ar pa c) → ∀ (post : Int32 → SY → Prop) (J : Int32 → Int32 → Int32 → Int32 → Int32 → Int32 → Int32 → Int32 → (Nat → Int32) → (Nat → Int32) → (Nat → Int32) → (Nat → Int32) → (Nat → Int32) → (Nat → Int32) → (Nat → Int32) → (Nat → Int32) → (Nat → Int32) → (Nat → Int32) → (Nat → Int32) → (Nat → Int32) → (Nat → Int32) → (Nat → Int32) → (Nat → Int32) → (Nat → Int32) → (Nat → Int32) → (Nat → Int32) → (Nat → Int32) → (Nat → Int32) → (Nat → Int32) → (Nat → Int32) → (Nat → Int32) → (Nat → Int32) → (Nat → Int32) → (Nat → Int32) → (Nat → Int32) → Prop), (∀ n', wpY_findTip (fun u => match u with | (g_made, g_blocks, g_arrivals, g_tip, g_pooled, g_chainLength, b_op, b_arg, b_length, b_ins, b_inCoin, b_inA, b_inB, b_outs, b_amount, b_lock, b_parent, b_work, b_rewardLock, b_height, b_many, b_holds, b_delivered, b_arrived, b_pool, b_chain, b_from, b_worth, b_within, b_spent, b_stack, b_again, b_chosen) => (∀ y1 : Int32, y1 = x1 + 1 → ∀ y3 : Int32, y3 = nI b + 1 → wY_arrive_12 post J (n' + 1) y1 1 y3 g_made g_blocks g_arrivals g_tip g_pooled g_chainLength b_op b_arg b_length b_ins b_inCoin b_inA b_inB b_outs b_amount b_lock b_parent b_work b_rewardLock b_height b_many b_holds b_delivered b_arrived b_pool b_chain b_from b_worth b_within b_spent b_stack b_again b_chosen)) (g_made, nI bk, g_arrivals + 1, g_tip, g_pooled, g_chainLength, b_op, b_arg, b_length, b_ins, b_inCoin, b_inA, b_inB, b_outs, b_amount, b_lock, b_parent, b_work, b_rewardLock, b_height, b_many, b_holds, b_delivered, upd b_arrived b g_arrivals, b_pool, b_chain, b_from, b_worth, b_within, b_spent, b_stack, b_again, b_chosen)) → ∀ n, m + 1 < n → wY_arrive_12 post J n x1 0 (nI i) g_made (nI bk) g_arrivals g_tip g_pooled g_chainLength b_op b_arg b_length b_ins b_inCoin b_inA b_inB b_outs b_amount b_lock b_parent b_work b_rewardLock b_height b_many b_holds b_delivered b_arrived b_pool b_chain b_from b_worth b_within b_spent b_stack b_again b_chosen) ∧
    ((∀ b, i ≤ b → b < bk → ¬ kb_can b_delivered ar pa b) → ∀ (post : Int32 → SY → Prop) (J : Int32 → Int32 → Int32 → Int32 → Int32 → Int32 → Int32 → Int32 → (Nat → Int32) → (Nat → Int32) → (Nat → Int32) → (Nat → Int32) → (Nat → Int32) → (Nat → Int32) → (Nat → Int32) → (Nat → Int32) → (Nat → Int32) → (Nat → Int32) → (Nat → Int32) → (Nat → Int32) → (Nat → Int32) → (Nat → Int32) → (Nat → Int32) → (Nat → Int32) → (Nat → Int32) → (Nat → Int32) → (Nat → Int32) → (Nat → Int32) → (Nat → Int32) → (Nat → Int32) → (Nat → Int32) → (Nat → Int32) → (Nat → Int32) → (Nat → Int32) → (Nat → Int32) → Prop), J x1 0 g_made (nI bk) g_arrivals g_tip g_pooled g_chainLength b_op b_arg b_length b_ins b_inCoin b_inA b_inB b_outs b_amount b_lock b_parent b_work b_rewardLock b_height b_many b_holds b_delivered b_arrived b_pool b_chain b_from b_worth b_within b_spent b_stack b_again b_chosen → ∀ n, m + 1 < n → wY_arrive_12 post J n x1 0 (nI i) g_made (nI bk) g_arrivals g_tip g_pooled g_chainLength b_op b_arg b_length b_ins b_inCoin b_inA b_inB b_outs b_amount b_lock b_parent b_work b_rewardLock b_height b_many b_holds b_delivered b_arrived b_pool b_chain b_from b_worth b_within b_spent b_stack b_again b_chosen) := by
  intro m
  induction m with
  | zero =>
    intro i e h1
    refine ⟨fun b h2 h3 => by omega, fun _ post J hJ n hn => ?_⟩
    obtain ⟨n, rfl⟩ : ∃ n', n = n' + 1 := ⟨n - 1, by omega⟩
    exact pk_le bk i (fun _ => hJ) (fun z => by omega)
  | succ m ih =>
    intro i e h1
    obtain ⟨I1, I0⟩ := ih (i + 1) (by omega) (by omega)
    have ei : (nI i).toNatClampNeg = i := nI_clamp (by omega)
    have ai := al i
    obtain ⟨p1, p2⟩ := Hp i (by omega)
    have ap := al (pa i)
    have ep : (nI (pa i)).toNatClampNeg = pa i := nI_clamp (by omega)
    have in32 : vp_in (nI i) 32 := pk_in i 32 (by omega)
    have ge : ∀ {a : Nat}, a < 100 → (0 ≤ nI a - 1 ↔ a ≠ 0) := fun {a} ha => by
      rw [← Int32.not_lt, kn_am1 ha]
    have rnd : ∀ (post : Int32 → SY → Prop) (J : Int32 → Int32 → Int32 → Int32 → Int32 → Int32 → Int32 → Int32 → (Nat → Int32) → (Nat → Int32) → (Nat → Int32) → (Nat → Int32) → (Nat → Int32) → (Nat → Int32) → (Nat → Int32) → (Nat → Int32) → (Nat → Int32) → (Nat → Int32) → (Nat → Int32) → (Nat → Int32) → (Nat → Int32) → (Nat → Int32) → (Nat → Int32) → (Nat → Int32) → (Nat → Int32) → (Nat → Int32) → (Nat → Int32) → (Nat → Int32) → (Nat → Int32) → (Nat → Int32) → (Nat → Int32) → (Nat → Int32) → (Nat → Int32) → (Nat → Int32) → (Nat → Int32) → Prop) (n : Nat), (¬ kb_can b_delivered ar pa i → wY_arrive_12 post J n x1 0 (nI (i + 1)) g_made (nI bk) g_arrivals g_tip g_pooled g_chainLength b_op b_arg b_length b_ins b_inCoin b_inA b_inB b_outs b_amount b_lock b_parent b_work b_rewardLock b_height b_many b_holds b_delivered b_arrived b_pool b_chain b_from b_worth b_within b_spent b_stack b_again b_chosen) → (kb_can b_delivered ar pa i → wpY_findTip (fun u => match u with | (g_made, g_blocks, g_arrivals, g_tip, g_pooled, g_chainLength, b_op, b_arg, b_length, b_ins, b_inCoin, b_inA, b_inB, b_outs, b_amount, b_lock, b_parent, b_work, b_rewardLock, b_height, b_many, b_holds, b_delivered, b_arrived, b_pool, b_chain, b_from, b_worth, b_within, b_spent, b_stack, b_again, b_chosen) => (∀ y1 : Int32, y1 = x1 + 1 → ∀ y3 : Int32, y3 = nI i + 1 → wY_arrive_12 post J n y1 1 y3 g_made g_blocks g_arrivals g_tip g_pooled g_chainLength b_op b_arg b_length b_ins b_inCoin b_inA b_inB b_outs b_amount b_lock b_parent b_work b_rewardLock b_height b_many b_holds b_delivered b_arrived b_pool b_chain b_from b_worth b_within b_spent b_stack b_again b_chosen)) (g_made, nI bk, g_arrivals + 1, g_tip, g_pooled, g_chainLength, b_op, b_arg, b_length, b_ins, b_inCoin, b_inA, b_inB, b_outs, b_amount, b_lock, b_parent, b_work, b_rewardLock, b_height, b_many, b_holds, b_delivered, upd b_arrived i g_arrivals, b_pool, b_chain, b_from, b_worth, b_within, b_spent, b_stack, b_again, b_chosen)) → wY_arrive_12 post J (n + 1) x1 0 (nI i) g_made (nI bk) g_arrivals g_tip g_pooled g_chainLength b_op b_arg b_length b_ins b_inCoin b_inA b_inB b_outs b_amount b_lock b_parent b_work b_rewardLock b_height b_many b_holds b_delivered b_arrived b_pool b_chain b_from b_worth b_within b_spent b_stack b_again b_chosen := by
      intro post J n k0 k1
      refine pk_le bk i (fun z => by omega) (fun _ => br_t rfl (And.intro in32 ?_))
      rw [ei, p1, ep, Hb i (by omega), Hb (pa i) (by omega)]
      exact br_c (fun z => nm_r (nI_1 i) (k0 (fun y => y.1 z))) (fun zd => And.intro in32 (br_c (fun za => nm_r (nI_1 i) (k0 (fun y => (ge ai).mp za y.2.1))) (fun za => And.intro (pk_in i 33 (by omega)) (And.intro (pk_in (pa i) 32 p2) (br_c (fun zp => And.intro in32 (nm_e (nm_e (k1 ⟨zd, (by apply Classical.byContradiction; intro q; exact za ((ge ai).mpr q)), (ge ap).mp zp⟩)))) (fun zp => nm_r (nI_1 i) (k0 (fun y => zp ((ge ap).mpr y.2.2)))))))))
    refine ⟨fun b h2 h3 cb M post J W n hn => ?_, fun M post J hJ n hn => ?_⟩
    · obtain ⟨n, rfl⟩ : ∃ n', n = n' + 2 := ⟨n - 2, by omega⟩
      by_cases q : b = i
      · subst q
        exact rnd post J (n + 1) (fun z => absurd cb z) (fun _ => W n)
      · exact rnd post J (n + 1) (fun _ => I1 b (by omega) h3 cb (fun c h4 h5 => M c (by omega) h5) post J W (n + 1) (by omega)) (fun z => absurd z (M i (Nat.le_refl _) (by omega)))
    · obtain ⟨n, rfl⟩ : ∃ n', n = n' + 1 := ⟨n - 1, by omega⟩
      exact rnd post J n (fun _ => I0 (fun b h4 h5 => M b (by omega) h5) post J hJ n (by omega)) (fun z => absurd z (M i (Nat.le_refl _) (by omega)))
end
/-- the facts that change -/
def zr_D (W : Nat → Option kc_K) (Cp : (Nat → Int32) → Prop) (bk md : Nat) (pa he ic ni nu : Nat → Nat) (am : Nat → Int32) (tp mn : Nat) (ch row : Nat → Nat) (K : kc_K) (fi rw rg wr cn ra fs tr fr wi sp : Nat → Int32) : Prop :=
  kn_H cn ch 32 ∧ kx_Z W bk pa he am rw rg ch tp K ∧ kx_V W bk rw rg wr ∧ Cp fi ∧ kn_H ra row 40 ∧ kp_P ic ni md K row mn ∧ kp_X ic ni nu am rw row mn fs tr ∧ ky_T fr sp wi
section
variable {a_op a_number a_tokens a_used a_timed a_inCoin a_inA a_inB a_ins a_amount a_script a_outs a_parent a_height a_work a_holds a_held a_rewardScript a_delivered : Nat → Int32} {b_parent b_work : Nat → Int32} {oP tk ic ni nu sc rs nh hd pa he : Nat → Nat} {md bk : Nat} {wk : Nat → Nat} {yo : Nat → Int32}
theorem zz_arrive {an0 : Nat} (N : kd_N oP tk ic ni nu sc rs nh hd pa he md bk) (D : kx_D a_op a_number a_tokens a_timed a_inCoin a_ins a_outs a_script a_rewardScript a_holds a_held a_parent a_height oP tk ic ni nu sc rs nh hd pa he) :
    ∀ (M an y tp mn : Nat) (ar ch row : Nat → Nat) (K : kc_K) (fe cl : Int32) (st fi rw rg wr cn ra fs tr ag bf yc fr w wi sp ys ya aa ba : Nat → Int32),
    kz_cnt (fun b => ar b = 0) 32 < M → an0 ≤ an → zr_B bk an pa wk ar a_parent a_work aa b_parent b_work ba → zr_D (kc_W ic ni nu a_amount (kf_fit oP a_number tk ic a_inA a_inB sc rs) nh hd pa he) (kf_C md ni a_timed (fun i => kx_s sc rs (ic i)) (kf_fit oP a_number tk ic a_inA a_inB sc rs)) bk md pa he ic ni nu a_amount tp mn ch row K fi rw rg wr cn ra fs tr fr wi sp →
    ∃ (an' tp' mn' : Nat) (ar' ch' row' : Nat → Nat) (K' : kc_K) (fe' cl' : Int32) (st' fi' rw' rg' wr' cn' ra' fs' tr' ag' bf' yc' fr' w' wi' sp' ys' ya' aa' ba' : Nat → Int32),
    an ≤ an' ∧ zr_B bk an' pa wk ar' a_parent a_work aa' b_parent b_work ba' ∧ zr_D (kc_W ic ni nu a_amount (kf_fit oP a_number tk ic a_inA a_inB sc rs) nh hd pa he) (kf_C md ni a_timed (fun i => kx_s sc rs (ic i)) (kf_fit oP a_number tk ic a_inA a_inB sc rs)) bk md pa he ic ni nu a_amount tp' mn' ch' row' K' fi' rw' rg' wr' cn' ra' fs' tr' fr' wi' sp' ∧
    (∀ post : Int32 → SX → Prop, post (nI (an' - an0)) (nI md, nI bk, nI an', nI tp', nI mn', 0, fe', a_op, a_number, a_tokens, a_used, a_timed, st', a_inCoin, a_inA, a_inB, a_ins, a_amount, a_script, a_outs, fi', a_parent, a_height, a_work, a_holds, a_held, a_rewardScript, rw', a_delivered, aa', rg', wr', cn', K'.1, K'.2.1, K'.2.2.1, ra', fs', tr', ag', bf') → ∀ n, M < n → ∀ Q : Int32 → Prop, (∀ r, wX_deliver_39 post (nI an0) n r (nI md) (nI bk) (nI an) (nI tp) (nI mn) 0 fe a_op a_number a_tokens a_used a_timed st a_inCoin a_inA a_inB a_ins a_amount a_script a_outs fi a_parent a_height a_work a_holds a_held a_rewardScript rw a_delivered aa rg wr cn K.1 K.2.1 K.2.2.1 ra fs tr ag bf → Q r) → wpX_next Q (nI md, nI bk, nI an, nI tp, nI mn, 0, fe, a_op, a_number, a_tokens, a_used, a_timed, st, a_inCoin, a_inA, a_inB, a_ins, a_amount, a_script, a_outs, fi, a_parent, a_height, a_work, a_holds, a_held, a_rewardScript, rw, a_delivered, aa, rg, wr, cn, K.1, K.2.1, K.2.2.1, ra, fs, tr, ag, bf)) ∧
    (∀ post : Int32 → SY → Prop, post (nI (y + (an' - an))) (nI md, nI bk, nI an', nI (ch' tp'), nI mn', cl', a_op, a_number, a_tokens, a_ins, a_inCoin, a_inA, a_inB, a_outs, a_amount, a_script, b_parent, b_work, a_rewardScript, a_height, a_holds, a_held, a_delivered, ba', ra', yc', fr', w', wi', sp', ys', ya', yo) → ∀ n, M < n → wY_arrive_4 post n (nI y) 1 (nI md) (nI bk) (nI an) (nI (ch tp)) (nI mn) cl a_op a_number a_tokens a_ins a_inCoin a_inA a_inB a_outs a_amount a_script b_parent b_work a_rewardScript a_height a_holds a_held a_delivered ba ra yc fr w wi sp ys ya yo) := by
  have b32 := kd_bk N
  intro M
  induction M with
  | zero => intro an y tp mn ar ch row K fe cl st fi rw rg wr cn ra fs tr ag bf yc fr w wi sp ys ya aa ba h; omega
  | succ M ih =>
    intro an y tp mn ar ch row K fe cl st fi rw rg wr cn ra fs tr ag bf yc fr w wi sp ys ya aa ba hM h0 RB RD
    obtain ⟨r1, r2, r3, r4, r5, r6, r7, r8, r9, r10, r11, r12⟩ := RB
    have DYp := (dx_dy D r1 r2).2.2.2.2.2.2.2.2.2.2.1.2
    have al : ∀ b, ar b < 100 := fun b => by have := kn_l r5 b; omega
    obtain ⟨A1, A0⟩ := yy_a12 (g_made := nI md) (g_arrivals := nI an) (g_tip := nI (ch tp)) (g_pooled := nI mn) (g_chainLength := cl) (b_op := a_op) (b_arg := a_number) (b_length := a_tokens) (b_ins := a_ins) (b_inCoin := a_inCoin) (b_inA := a_inA) (b_inB := a_inB) (b_outs := a_outs) (b_amount := a_amount) (b_lock := a_script) (b_parent := b_parent) (b_work := b_work) (b_rewardLock := a_rewardScript) (b_height := a_height) (b_many := a_holds) (b_holds := a_held) (b_delivered := a_delivered) (b_arrived := ba) (b_pool := ra) (b_chain := yc) (b_from := fr) (b_worth := w) (b_within := wi) (b_spent := sp) (b_stack := ys) (b_again := ya) (b_chosen := yo) (x1 := nI y) b32 r6 al DYp (bk - 1) 1 (by have := (kd_T N).1; omega) (by omega)
    rcases xx_next (f_made := nI md) (f_arrivals := nI an) (f_top := nI tp) (f_many := nI mn) (f_agains := 0) (f_feeNow := fe) (a_op := a_op) (a_number := a_number) (a_tokens := a_tokens) (a_used := a_used) (a_timed := a_timed) (a_stack := st) (a_inCoin := a_inCoin) (a_inA := a_inA) (a_inB := a_inB) (a_ins := a_ins) (a_amount := a_amount) (a_script := a_script) (a_outs := a_outs) (a_fitting := fi) (a_parent := a_parent) (a_height := a_height) (a_work := a_work) (a_holds := a_holds) (a_held := a_held) (a_rewardScript := a_rewardScript) (a_reward := rw) (a_delivered := a_delivered) (a_arrival := aa) (a_right := rg) (a_wrong := wr) (a_chain := cn) (a_born := K.1) (a_spent := K.2.1) (a_since := K.2.2.1) (a_row := ra) (a_fees := fs) (a_taker := tr) (a_again := ag) (a_before := bf) b32 (kd_T N).1 r5 (dx_pa D) with ⟨b, b1, b2, b3, b4, RX⟩ | ⟨b1, RX⟩
    · -- a block arrives
      obtain ⟨le, RB1⟩ := zr_B_arr b32 b2 b3.2.1 ⟨r1, r2, r3, r4, r5, r6, r7, r8, r9, r10, r11, r12⟩
      obtain ⟨s1, s2, s3, s4, s5, s6, s7, s8, s9, s10, s11, s12⟩ := RB1
      obtain ⟨d1, d2, d3, d4, d5, d6, d7, d8⟩ := RD
      obtain ⟨tp1, mn1, ch1, row1, K1, fe1, cl1, st1, fi1, rw1, rg1, wr1, cn1, ra1, fs1, tr1, ag1, bf1, yc1, fr1, w1, wi1, sp1, ys1, ya1, e1, e2, e3, e4, e5, e6, e7, e8, CX, CY⟩ := zz_choose (f_arrivals := nI (an + 1)) (a_op := a_op) (a_number := a_number) (a_tokens := a_tokens) (a_used := a_used) (a_timed := a_timed) (a_inCoin := a_inCoin) (a_inA := a_inA) (a_inB := a_inB) (a_ins := a_ins) (a_amount := a_amount) (a_script := a_script) (a_outs := a_outs) (a_parent := a_parent) (a_height := a_height) (a_work := a_work) (a_holds := a_holds) (a_held := a_held) (a_rewardScript := a_rewardScript) (a_delivered := a_delivered) (a_arrival := upd aa b (nI (an + 1))) (g_arrivals := nI (an + 1)) (b_parent := b_parent) (b_work := b_work) (b_arrived := upd ba b (nI an)) N D s1 s2 s3 s4 s5 s6 s7 s8 (fe := fe) (cl := cl) (st := st) (ag := ag) (bf := bf) (yc := yc) (w := w) (ys := ys) (ya := ya) (yo := yo) d1 d2 d3 d4 d5 d6 d7 d8
      have lt : kz_cnt (fun x => kn_u ar b (an + 1) x = 0) 32 < kz_cnt (fun x => ar x = 0) 32 := by
        refine kz_cnt_lt (a := b) (fun q => by rw [kn_us] at q; omega) b3.2.1 (fun k _ q => ?_) (by omega)
        by_cases z : k = b
        · subst z; exact b3.2.1
        · rw [kn_un z] at q; exact q
      obtain ⟨an', tp', mn', ar', ch', row', K', fe', cl', st', fi', rw', rg', wr', cn', ra', fs', tr', ag', bf', yc', fr', w', wi', sp', ys', ya', aa', ba', g1, g2, g3, GX, GY⟩ := ih (an + 1) (y + 1) tp1 mn1 (kn_u ar b (an + 1)) ch1 row1 K1 fe1 cl1 st1 fi1 rw1 rg1 wr1 cn1 ra1 fs1 tr1 ag1 bf1 yc1 fr1 w1 wi1 sp1 ys1 ya1 (upd aa b (nI (an + 1))) (upd ba b (nI an)) (by omega) (by omega) ⟨s1, s2, s3, s4, s5, s6, s7, s8, s9, s10, s11, s12⟩ ⟨e1, e2, e3, e4, e5, e6, e7, e8⟩
      refine ⟨an', tp', mn', ar', ch', row', K', fe', cl', st', fi', rw', rg', wr', cn', ra', fs', tr', ag', bf', yc', fr', w', wi', sp', ys', ya', aa', ba', by omega, g2, g3, fun post hp n hn Q hQ => ?_, fun post hp n hn => ?_⟩
      · obtain ⟨n, rfl⟩ : ∃ n', n = n' + 1 := ⟨n - 1, by omega⟩
        refine RX _ (hQ _ (br_f (nI_pos (by omega)) (nm_r (nI_1 an) (And.intro (pk_in b 32 (by omega)) (nm_r (kn_uv b (kn_vb2 (an + 1) (nI_1 an))) (CX _ ?_))))))
        exact GX post hp n (by omega) _ (fun r h => h)
      · obtain ⟨n, rfl⟩ : ∃ n', n = n' + 1 := ⟨n - 1, by omega⟩
        refine br_f kn_10 ⟨bk + 2, A1 b (by omega) b2 b3 b4 post _ (fun n' => ?_) _ (by omega)⟩
        rw [nI_1 an]
        refine CY _ ?_
        refine nm_r (nI_1 y) (nm_r (nI_1 b) ?_)
        have fin := GY post (by rw [show y + 1 + (an' - (an + 1)) = y + (an' - an) by omega]; exact hp) n (by omega)
        exact pk_le bk (b + 1) (fun _ => fin) (fun _ => br_f kn_10 fin)
    · refine ⟨an, tp, mn, ar, ch, row, K, fe, cl, st, fi, rw, rg, wr, cn, ra, fs, tr, ag, bf, yc, fr, w, wi, sp, ys, ya, aa, ba, Nat.le_refl _, ⟨r1, r2, r3, r4, r5, r6, r7, r8, r9, r10, r11, r12⟩, RD, fun post hp n hn Q hQ => ?_, fun post hp n hn => ?_⟩
      · obtain ⟨n, rfl⟩ : ∃ n', n = n' + 1 := ⟨n - 1, by omega⟩
        refine RX _ (hQ _ (br_t kn_m1lt ?_))
        rw [pk_sub h0]; exact hp
      · obtain ⟨n, rfl⟩ : ∃ n', n = n' + 2 := ⟨n - 2, by omega⟩
        refine br_f kn_10 ⟨bk + 2, A0 (fun b h1 h2 => b1 b (by omega) h2) post _ (br_t rfl ?_) _ (by omega)⟩
        rw [Nat.sub_self, Nat.add_zero] at hp; exact hp
end
end
section
/-! ===== what was made stays: the chains under new data ===== -/
section
variable {ic ni nu ic' ni' nu' : Nat → Nat} {am am' : Nat → Int32} {fit fit' : Nat → Int32 → Int32 → Bool} {nh hd pa he nh' hd' pa' he' : Nat → Nat} {md bk : Nat}
/-- the transactions before md are the same -/
def ke_T (md : Nat) (ic ni nu ic' ni' nu' : Nat → Nat) (am am' : Nat → Int32) (fit fit' : Nat → Int32 → Int32 → Bool) : Prop :=
  ∀ t, t < md → ni' t = ni t ∧ nu' t = nu t ∧ (∀ i, 3 * t ≤ i → i < 3 * t + ni t → ic' i = ic i ∧ ∀ g h, fit' i g h = fit i g h) ∧ (∀ o, 3 * t ≤ o → o < 3 * t + nu t → am' o = am o)
def ke_B (bk : Nat) (nh hd pa he nh' hd' pa' he' : Nat → Nat) : Prop :=
  ∀ b, b < bk → nh' b = nh b ∧ pa' b = pa b ∧ he' b = he b ∧ ∀ k, k < nh b → hd' (4 * b + k) = hd (4 * b + k)
theorem ke_fee {t : Nat} {w w' : Nat → Int32} (E : ke_T md ic ni nu ic' ni' nu' am am' fit fit') (ht : t < md) (hw : ∀ i, 3 * t ≤ i → i < 3 * t + ni t → w' (ic i) = w (ic i)) : kc_fee ic' ni' nu' am' t w' = kc_fee ic ni nu am t w := by
  obtain ⟨e1, e2, e3, e4⟩ := E t ht
  unfold kc_fee
  rw [e1, e2, kc_sum_cg (g' := fun i => w (ic i)) _ _ _ (fun j h1 h2 => by rw [(e3 j h1 h2).1]; exact hw j h1 h2), kc_sub_cg (g' := am) _ _ _ (fun j h1 h2 => e4 j h1 h2)]
theorem ke_okT {t h : Nat} {K : kc_K} (E : ke_T md ic ni nu ic' ni' nu' am am' fit fit') (ht : t < md) : kc_okT ic' ni' nu' am' fit' t h K ↔ kc_okT ic ni nu am fit t h K := by
  obtain ⟨e1, e2, e3, e4⟩ := E t ht
  unfold kc_okT kc_okI kc_ok1
  rw [ke_fee (w := K.2.2.2) (w' := K.2.2.2) E ht (fun _ _ _ => rfl), e1]
  constructor
  · rintro ⟨a, b, c⟩
    refine ⟨a, fun i h1 h2 => ?_, c⟩
    have := b i h1 h2
    rw [(e3 i h1 h2).1, (e3 i h1 h2).2] at this
    exact this
  · rintro ⟨a, b, c⟩
    refine ⟨a, fun i h1 h2 => ?_, c⟩
    rw [(e3 i h1 h2).1, (e3 i h1 h2).2]
    exact b i h1 h2
theorem ke_doT {t h : Nat} {K : kc_K} (E : ke_T md ic ni nu ic' ni' nu' am am' fit fit') (ht : t < md) : kc_doT ic' ni' nu' am' t h K = kc_doT ic ni nu am t h K := by
  obtain ⟨e1, e2, e3, e4⟩ := E t ht
  unfold kc_doT
  rw [e1, e2, kc_sg_cg (ix' := ic) (g' := fun _ => 1) _ _ _ (fun j h1 h2 => ⟨(e3 j h1 h2).1, rfl⟩), kc_sg_cg (ix' := fun j => j) (g' := am) _ _ K.2.2.2 (fun j h1 h2 => ⟨rfl, e4 j h1 h2⟩)]
theorem ke_tx1 {t h : Nat} {p : kc_K × Int32} (E : ke_T md ic ni nu ic' ni' nu' am am' fit fit') (ht : t < md) : kc_tx1 ic' ni' nu' am' fit' t h p = kc_tx1 ic ni nu am fit t h p := by
  by_cases z : kc_okT ic ni nu am fit t h p.1
  · rw [kc_tx1_t z, kc_tx1_t ((ke_okT E ht).mpr z), ke_doT E ht, ke_fee (w := p.1.2.2.2) E ht (fun _ _ _ => rfl)]
  · rw [kc_tx1_f z, kc_tx1_f (fun q => z ((ke_okT E ht).mp q))]
theorem ke_txs {b h : Nat} {K : kc_K} (E : ke_T md ic ni nu ic' ni' nu' am am' fit fit') (F : ke_B bk nh hd pa he nh' hd' pa' he') (hb : b < bk) (hh : ∀ k, k < nh b → hd (4 * b + k) < md) : ∀ j, j ≤ nh b → kc_txs ic' ni' nu' am' fit' hd' b h j K = kc_txs ic ni nu am fit hd b h j K
  | 0, _ => rfl
  | j + 1, hj => by
    show (kc_txs ic' ni' nu' am' fit' hd' b h j K).bind _ = (kc_txs ic ni nu am fit hd b h j K).bind _
    rw [ke_txs E F hb hh j (by omega), (F b hb).2.2.2 j (by omega)]
    congr 1
    funext p
    exact ke_tx1 E (hh j (by omega))
theorem ke_blk {b h : Nat} {K : kc_K} (E : ke_T md ic ni nu ic' ni' nu' am am' fit fit') (F : ke_B bk nh hd pa he nh' hd' pa' he') (hb : b < bk) (hh : ∀ k, k < nh b → hd (4 * b + k) < md) : kc_blk ic' ni' nu' am' fit' nh' hd' b h K = kc_blk ic ni nu am fit nh hd b h K := by
  unfold kc_blk
  rw [(F b hb).1, ke_txs E F hb hh _ (Nat.le_refl _)]
theorem ke_Wf (E : ke_T md ic ni nu ic' ni' nu' am am' fit fit') (F : ke_B bk nh hd pa he nh' hd' pa' he') (hp : ∀ b, b < bk → pa b < bk) (hh : ∀ b, b < bk → ∀ k, k < nh b → hd (4 * b + k) < md) : ∀ f b, b < bk → kc_Wf ic' ni' nu' am' fit' nh' hd' pa' f b = kc_Wf ic ni nu am fit nh hd pa f b
  | 0, b, hb => ke_blk E F hb (hh b hb)
  | f + 1, b, hb => by
    show (kc_Wf ic' ni' nu' am' fit' nh' hd' pa' f (pa' b)).bind _ = (kc_Wf ic ni nu am fit nh hd pa f (pa b)).bind _
    rw [(F b hb).2.1, ke_Wf E F hp hh f (pa b) (hp b hb)]
    congr 1
    funext K
    exact ke_blk E F hb (hh b hb)
theorem ke_W (E : ke_T md ic ni nu ic' ni' nu' am am' fit fit') (F : ke_B bk nh hd pa he nh' hd' pa' he') (hp : ∀ b, b < bk → pa b < bk) (hh : ∀ b, b < bk → ∀ k, k < nh b → hd (4 * b + k) < md) {b : Nat} (hb : b < bk) : kc_W ic' ni' nu' am' fit' nh' hd' pa' he' b = kc_W ic ni nu am fit nh hd pa he b := by
  unfold kc_W
  rw [(F b hb).2.2.1]
  exact ke_Wf E F hp hh _ b hb
/-- what is in a chain has been made -/
theorem kc_txs_md {b h : Nat} {K : kc_K} (hh : ∀ k, k < nh b → hd (4 * b + k) < md) (M : ∀ t, t < 40 → ¬ K.2.2.1 t = -1 → t < md) : ∀ (j : Nat) (p : kc_K × Int32), j ≤ nh b → kc_txs ic ni nu am fit hd b h j K = some p → ∀ t, t < 40 → ¬ p.1.2.2.1 t = -1 → t < md
  | 0, p, _, e, t, ht, z => by
    have e' : some (K, (0 : Int32)) = some p := e
    rw [← Option.some.inj e'] at z
    exact M t ht z
  | j + 1, p, hj, e, t, ht, z => by
    obtain ⟨q, e1, e2, e3⟩ := kc_txs_i e
    rw [e3] at z
    have z' : ¬ upd q.1.2.2.1 (hd (4 * b + j)) (nI h) t = -1 := z
    by_cases y : t = hd (4 * b + j)
    · rw [y]; exact hh j (by omega)
    · rw [pk_un y] at z'
      exact kc_txs_md hh M j q (by omega) e1 t ht z'
theorem kc_W_md (T : kc_T bk pa he) (hh : ∀ b, b < bk → ∀ k, k < nh b → hd (4 * b + k) < md) : ∀ n b K, he b < n → b < bk → kc_W ic ni nu am fit nh hd pa he b = some K → ∀ t, t < 40 → ¬ K.2.2.1 t = -1 → t < md := by
  intro n
  induction n with
  | zero => intro b K h; omega
  | succ n ih =>
    intro b K h hb e
    by_cases z : he b = 0
    · rw [kc_W_0 z] at e
      obtain ⟨p, e1, e2⟩ := kc_blk_some e
      rw [e2]
      exact kc_txs_md (hh b hb) (fun t ht q => absurd (if_pos ht) q) _ p (Nat.le_refl _) e1
    · have s := kc_T_s T hb (by omega)
      obtain ⟨K', e1, e2⟩ := kc_W_some s e
      obtain ⟨p, e3, e4⟩ := kc_blk_some e2
      rw [e4]
      exact kc_txs_md (hh b hb) (ih (pa b) K' (by omega) (kc_T_p T hb) e1) _ p (Nat.le_refl _) e3
end
/-- the facts that change, under new data -/
theorem zr_D_ext {ic ni nu ic' ni' nu' nh hd pa he nh' hd' pa' he' si si' ch row oP tk sc rs : Nat → Nat} {am am' tm tm' : Nat → Int32} {fit fit' : Nat → Int32 → Int32 → Bool} {md bk md' bk' tp mn : Nat} {K : kc_K} {fi rw rg wr cn ra fs tr fr wi sp : Nat → Int32} (N : kd_N oP tk ic ni nu sc rs nh hd pa he md bk)
    (hm : md ≤ md') (hbk : bk ≤ bk') (E : ke_T md ic ni nu ic' ni' nu' am am' fit fit') (F : ke_B bk nh hd pa he nh' hd' pa' he') (ha : ∀ c, c < 3 * md → am' c = am c)
    (hi : ∀ t, t < md → ∀ i, 3 * t ≤ i → i < 3 * t + ni t → tm' (si' i) = tm (si i) ∧ (ic i < 120 → ic i < 3 * md))
    (R : zr_D (kc_W ic ni nu am fit nh hd pa he) (kf_C md ni tm si fit) bk md pa he ic ni nu am tp mn ch row K fi rw rg wr cn ra fs tr fr wi sp) :
    zr_D (kc_W ic' ni' nu' am' fit' nh' hd' pa' he') (kf_C md' ni' tm' si' fit') bk' md' pa' he' ic' ni' nu' am' tp mn ch row K fi rw rg wr cn ra fs tr fr wi sp := by
  obtain ⟨r1, r2, r3, r4, r5, r6, r7, r8⟩ := R
  have T := kd_T N
  have hh : ∀ b, b < bk → ∀ k, k < nh b → hd (4 * b + k) < md := fun b hb k hk => kd_hd N hb hk
  have eW : ∀ b, b < bk → kc_W ic' ni' nu' am' fit' nh' hd' pa' he' b = kc_W ic ni nu am fit nh hd pa he b := fun b hb => ke_W E F (fun b hb => kc_T_p T hb) hh hb
  have zt := r2.1.1 tp (Nat.le_refl _)
  have Ik := kc_W_I' (kd_D N) T zt.1 r2.2.1
  have h32 := kc_T_l T zt.1
  have kin : ∀ t c, t < md → (kp_in ic' ni' t c ↔ kp_in ic ni t c) := fun t c ht => by
    obtain ⟨e1, _, e3, _⟩ := E t ht
    unfold kp_in
    rw [e1]
    constructor
    · rintro ⟨i, a, b, d⟩; exact ⟨i, a, b, by rw [← (e3 i a b).1]; exact d⟩
    · rintro ⟨i, a, b, d⟩; exact ⟨i, a, b, by rw [(e3 i a b).1]; exact d⟩
  refine ⟨r1, ⟨⟨fun h hh' => ?_, fun h hh' => ?_⟩, by rw [eW _ zt.1]; exact r2.2.1, fun c hc z => ?_, r2.2.2.2⟩, ⟨fun b => ?_, fun b => ?_⟩, fun i => ⟨fun q => ?_, fun q => ?_⟩, r5, ⟨r6.1, fun k hk => ?_, r6.2.2.1, fun k hk i h1 h2 => ?_, fun j k c hj hk h1 h2 => ?_⟩, ⟨fun k hk => ?_, fun c hc => ?_⟩, r8⟩
  · have a := r2.1.1 h hh'
    exact ⟨by omega, by rw [(F _ a.1).2.2.1]; exact a.2⟩
  · have a := r2.1.1 (h + 1) (by omega)
    rw [(F _ a.1).2.1]; exact r2.1.2 h hh'
  · rw [← r2.2.2.1 c hc z]
    unfold kc_av
    by_cases q : c < 120
    · rw [if_pos q, if_pos q]
      refine ha c ?_
      have w : ¬ K.2.2.1 (c / 3) = -1 := fun w => z (kn_neg (Ik.2.2.2.2.1 c q w))
      have := kc_W_md T hh (he (ch tp) + 1) (ch tp) K (by omega) zt.1 r2.2.1 (c / 3) (by omega) w
      omega
    · rw [if_neg q, if_neg q]
  · rcases r3.1 b with z | ⟨z1, z2, K', z3, z4⟩
    · exact Or.inl z
    · exact Or.inr ⟨z1, by omega, K', by rw [eW b z2]; exact z3, z4⟩
  · rcases r3.2 b with z | ⟨z1, z2, z3⟩
    · exact Or.inl z
    · exact Or.inr ⟨z1, by omega, by rw [eW b z2]; exact z3⟩
  · refine (r4 i).1 (fun t ht z => q t (by omega) ?_)
    rw [(E t ht).1]; exact z
  · by_cases z : ∃ t, t < md ∧ 3 * t ≤ i ∧ i < 3 * t + ni t
    · obtain ⟨t, ht, h1, h2⟩ := z
      rw [(hi t ht i h1 h2).1] at q
      have ef := ((E t ht).2.2.1 i h1 h2).2
      rcases (r4 i).2 q with a | a | a
      · exact Or.inl a
      · exact Or.inr (Or.inl ⟨a.1, fun g h => by rw [ef]; exact a.2 g h⟩)
      · exact Or.inr (Or.inr ⟨a.1, fun g h => by rw [ef]; exact a.2 g h⟩)
    · exact Or.inl ((r4 i).1 (fun t ht y => z ⟨t, ht, y⟩))
  · have a := r6.2.1 k hk
    exact ⟨by omega, a.2⟩
  · have a := r6.2.1 k hk
    rw [(E _ a.1).1] at h2
    rw [((E _ a.1).2.2.1 i h1 h2).1]
    exact r6.2.2.2.1 k hk i h1 h2
  · rw [kin _ _ (r6.2.1 j hj).1] at h1
    rw [kin _ _ (r6.2.1 k hk).1] at h2
    exact r6.2.2.2.2 j k c hj hk h1 h2
  · have a := r6.2.1 k hk
    rw [r7.1 k hk]
    refine (ke_fee E a.1 (fun i h1 h2 => ?_)).symm
    unfold kc_av
    by_cases q : ic i < 120
    · rw [if_pos q, if_pos q]; exact ha _ ((hi _ a.1 i h1 h2).2 q)
    · rw [if_neg q, if_neg q]
  · rcases r7.2 c hc with ⟨z1, z2⟩ | ⟨k, z1, z2, z3⟩
    · exact Or.inl ⟨z1, fun k hk => by rw [kin _ _ (r6.2.1 k hk).1]; exact z2 k hk⟩
    · exact Or.inr ⟨k, z1, z2, by rw [kin _ _ (r6.2.1 k z1).1]; exact z3⟩
end
section
/-! ===== the relation ===== -/
def zr_S (md bk : Nat) (oP tk ic ni nu sc rs nh hd : Nat → Nat) (a_used a_timed a_amount a_delivered : Nat → Int32) : Prop :=
  kn_B a_used ∧ kn_B a_timed ∧ (∃ am, kn_H a_amount am 1001) ∧
  (∀ s, s < 8 → (¬ a_used s = 0 ↔ ((∃ b, b < bk ∧ rs b = s) ∨ ∃ t, t < md ∧ ∃ o, 3 * t ≤ o ∧ o < 3 * t + nu t ∧ sc o = s))) ∧
  (∀ t, t < md ∨ t = 40 → ∀ i, 3 * t ≤ i → i < 3 * t + ni t → (ic i < 120 → ic i / 3 < md ∧ ic i % 3 < nu (ic i / 3)) ∧ (120 ≤ ic i → ic i - 120 < bk)) ∧
  (∀ i j, 120 ≤ i → i < 120 + ni 40 → 120 ≤ j → j < 120 + ni 40 → ic i = ic j → i = j) ∧
  (∀ k, k < nh 32 → hd (128 + k) < md) ∧ (∀ b, bk ≤ b → b < 32 → nh b = 0) ∧ (∀ b, bk ≤ b → a_delivered b = 0)
/-- the two states hold the same data; X's active state is that of the chain of its tip, which is Y's tip -/
def i_Rel (k : Nat) (u : SX) (v : SY) : Prop := ∀ P : SX → SY → Prop, (∀ (md bk an tp mn : Nat) (oP tk ic ni nu sc rs nh hd pa he wk ar ch row : Nat → Nat) (K : kc_K) (fe cl : Int32) (a_op a_number a_tokens a_used a_timed a_inCoin a_inA a_inB a_ins a_amount a_script a_outs a_parent a_height a_work a_holds a_held a_rewardScript a_delivered st fi rw rg wr cn ra fs tr ag bf aa b_parent b_work ba yc fr w wi sp ys ya yo : Nat → Int32), kd_N oP tk ic ni nu sc rs nh hd pa he md bk → kx_D a_op a_number a_tokens a_timed a_inCoin a_ins a_outs a_script a_rewardScript a_holds a_held a_parent a_height oP tk ic ni nu sc rs nh hd pa he → zr_S md bk oP tk ic ni nu sc rs nh hd a_used a_timed a_amount a_delivered → zr_B bk an pa wk ar a_parent a_work aa b_parent b_work ba → zr_D (kc_W ic ni nu a_amount (kf_fit oP a_number tk ic a_inA a_inB sc rs) nh hd pa he) (kf_C md ni a_timed (fun i => kx_s sc rs (ic i)) (kf_fit oP a_number tk ic a_inA a_inB sc rs)) bk md pa he ic ni nu a_amount tp mn ch row K fi rw rg wr cn ra fs tr fr wi sp → P (nI md, nI bk, nI an, nI tp, nI mn, 0, fe, a_op, a_number, a_tokens, a_used, a_timed, st, a_inCoin, a_inA, a_inB, a_ins, a_amount, a_script, a_outs, fi, a_parent, a_height, a_work, a_holds, a_held, a_rewardScript, rw, a_delivered, aa, rg, wr, cn, K.1, K.2.1, K.2.2.1, ra, fs, tr, ag, bf) (nI md, nI bk, nI an, nI (ch tp), nI mn, cl, a_op, a_number, a_tokens, a_ins, a_inCoin, a_inA, a_inB, a_outs, a_amount, a_script, b_parent, b_work, a_rewardScript, a_height, a_holds, a_held, a_delivered, ba, ra, yc, fr, w, wi, sp, ys, ya, yo)) → P u v
theorem i_up {k : Nat} {u : SX} {v : SY} (h : i_Rel k u v) : i_Rel (k + 4) u v := h
section
variable {md bk an tp mn : Nat} {oP tk ic ni nu sc rs nh hd pa he wk ar ch row : Nat → Nat} {K : kc_K} {fe cl : Int32} {a_op a_number a_tokens a_used a_timed a_inCoin a_inA a_inB a_ins a_amount a_script a_outs a_parent a_height a_work a_holds a_held a_rewardScript a_delivered st fi rw rg wr cn ra fs tr ag bf aa b_parent b_work ba yc fr w wi sp ys ya yo : Nat → Int32}
/-- Y goes through the active chain -/
theorem zz_walk (N : kd_N oP tk ic ni nu sc rs nh hd pa he md bk) (D : kx_D a_op a_number a_tokens a_timed a_inCoin a_ins a_outs a_script a_rewardScript a_holds a_held a_parent a_height oP tk ic ni nu sc rs nh hd pa he) (B : zr_B bk an pa wk ar a_parent a_work aa b_parent b_work ba) (Z : zr_D (kc_W ic ni nu a_amount (kf_fit oP a_number tk ic a_inA a_inB sc rs) nh hd pa he) (kf_C md ni a_timed (fun i => kx_s sc rs (ic i)) (kf_fit oP a_number tk ic a_inA a_inB sc rs)) bk md pa he ic ni nu a_amount tp mn ch row K fi rw rg wr cn ra fs tr fr wi sp) :
    ∃ w' ys' yc', kc_A K w' ∧ (∀ h, h ≤ tp → yc' h = nI (ch h)) ∧ ∀ post : Int32 → SY → Prop, post 1 (nI md, nI bk, nI an, nI (ch tp), nI mn, nI (tp + 1), a_op, a_number, a_tokens, a_ins, a_inCoin, a_inA, a_inB, a_outs, a_amount, a_script, b_parent, b_work, a_rewardScript, a_height, a_holds, a_held, a_delivered, ba, ra, yc', K.1, w', K.2.2.1, K.2.1, ys', ya, yo) → wpY_walk post (nI md, nI bk, nI an, nI (ch tp), nI mn, cl, a_op, a_number, a_tokens, a_ins, a_inCoin, a_inA, a_inB, a_outs, a_amount, a_script, b_parent, b_work, a_rewardScript, a_height, a_holds, a_held, a_delivered, ba, ra, yc, fr, w, wi, sp, ys, ya, yo) (nI (ch tp)) := by
  obtain ⟨d1, d2, d3, d4, d5, d6, d7, d8⟩ := Z
  have zt := d2.1.1 tp (Nat.le_refl _)
  obtain ⟨Y1, _⟩ := yy_walk (g_made := nI md) (g_blocks := nI bk) (g_arrivals := nI an) (g_tip := nI (ch tp)) (g_pooled := nI mn) (g_chainLength := cl) (b_op := a_op) (b_arg := a_number) (b_length := a_tokens) (b_ins := a_ins) (b_inCoin := a_inCoin) (b_inA := a_inA) (b_inB := a_inB) (b_outs := a_outs) (b_amount := a_amount) (b_lock := a_script) (b_parent := b_parent) (b_work := b_work) (b_rewardLock := a_rewardScript) (b_height := a_height) (b_many := a_holds) (b_holds := a_held) (b_delivered := a_delivered) (b_arrived := ba) (b_pool := ra) (b_chain := yc) (b_from := fr) (b_worth := w) (b_within := wi) (b_spent := sp) (b_stack := ys) (b_again := ya) (b_chosen := yo) zt.1 N (dx_dy D B.1 B.2.1) d8
  obtain ⟨w2, ys2, c2, C2, ce2, A2, W2⟩ := Y1 K d2.2.1
  rw [zt.2] at C2 ce2 W2
  have cc : ∀ h, h ≤ tp → c2 h = ch h := kc_ch_u C2 d2.1 ce2
  exact ⟨w2, ys2, _, A2, fun h hh => (if_pos hh).trans (by rw [cc h hh]), W2⟩
theorem zz_top (N : kd_N oP tk ic ni nu sc rs nh hd pa he md bk) (Z : zr_D (kc_W ic ni nu a_amount (kf_fit oP a_number tk ic a_inA a_inB sc rs) nh hd pa he) (kf_C md ni a_timed (fun i => kx_s sc rs (ic i)) (kf_fit oP a_number tk ic a_inA a_inB sc rs)) bk md pa he ic ni nu a_amount tp mn ch row K fi rw rg wr cn ra fs tr fr wi sp) : ch tp < bk ∧ he (ch tp) = tp ∧ tp < 32 ∧ kc_I he tp K := by
  have zt := Z.2.1.1.1 tp (Nat.le_refl _)
  refine ⟨zt.1, zt.2, by have := kc_T_l (kd_T N) zt.1; omega, ?_⟩
  have := kc_W_I' (kd_D N) (kd_T N) zt.1 Z.2.1.2.1
  rw [zt.2] at this; exact this
theorem zz_T (N : kd_N oP tk ic ni nu sc rs nh hd pa he md bk) (Z : zr_D (kc_W ic ni nu a_amount (kf_fit oP a_number tk ic a_inA a_inB sc rs) nh hd pa he) (kf_C md ni a_timed (fun i => kx_s sc rs (ic i)) (kf_fit oP a_number tk ic a_inA a_inB sc rs)) bk md pa he ic ni nu a_amount tp mn ch row K fi rw rg wr cn ra fs tr fr wi sp) : zr_D (kc_W ic ni nu a_amount (kf_fit oP a_number tk ic a_inA a_inB sc rs) nh hd pa he) (kf_C md ni a_timed (fun i => kx_s sc rs (ic i)) (kf_fit oP a_number tk ic a_inA a_inB sc rs)) bk md pa he ic ni nu a_amount tp mn ch row K fi rw rg wr cn ra fs tr K.1 K.2.2.1 K.2.1 := by
  obtain ⟨d1, d2, d3, d4, d5, d6, d7, d8⟩ := Z
  have I := (zz_top N ⟨d1, d2, d3, d4, d5, d6, d7, d8⟩).2.2.2
  exact ⟨d1, d2, d3, d4, d5, d6, d7, ky_TI I⟩
end
theorem i_vc_deliver {k : Nat} {u : SX} {v : SY} (I : i_Rel k u v) (hk : k + 4 ≤ 2048) (v1 : Int32) : wpX_deliver (fun r u' => wpY_deliver (fun r' v' => r' = r ∧ i_Rel (k + 4) u' v') v v1) u v1 := by
  refine I (fun u v => wpX_deliver (fun r u' => wpY_deliver (fun r' v' => r' = r ∧ i_Rel (k + 4) u' v') v v1) u v1) ?_
  clear I u v
  intro md bk an tp mn oP tk ic ni nu sc rs nh hd pa he wk ar ch row K fe cl a_op a_number a_tokens a_used a_timed a_inCoin a_inA a_inB a_ins a_amount a_script a_outs a_parent a_height a_work a_holds a_held a_rewardScript a_delivered st fi rw rg wr cn ra fs tr ag bf aa b_parent b_work ba yc fr w wi sp ys ya yo N D S B Z
  have b32 := kd_bk N
  have R : i_Rel (k + 4) (nI md, nI bk, nI an, nI tp, nI mn, 0, fe, a_op, a_number, a_tokens, a_used, a_timed, st, a_inCoin, a_inA, a_inB, a_ins, a_amount, a_script, a_outs, fi, a_parent, a_height, a_work, a_holds, a_held, a_rewardScript, rw, a_delivered, aa, rg, wr, cn, K.1, K.2.1, K.2.2.1, ra, fs, tr, ag, bf) (nI md, nI bk, nI an, nI (ch tp), nI mn, cl, a_op, a_number, a_tokens, a_ins, a_inCoin, a_inA, a_inB, a_outs, a_amount, a_script, b_parent, b_work, a_rewardScript, a_height, a_holds, a_held, a_delivered, ba, ra, yc, fr, w, wi, sp, ys, ya, yo) := fun P h => h md bk an tp mn oP tk ic ni nu sc rs nh hd pa he wk ar ch row K fe cl a_op a_number a_tokens a_used a_timed a_inCoin a_inA a_inB a_ins a_amount a_script a_outs a_parent a_height a_work a_holds a_held a_rewardScript a_delivered st fi rw rg wr cn ra fs tr ag bf aa b_parent b_work ba yc fr w wi sp ys ya yo N D S B Z
  unfold wpX_deliver
  rcases pk_ix v1 (n := bk) (by omega) with q | q | ⟨b, hb, rfl⟩
  · refine xx_no0 (Or.inl q) ?_
    refine br_f kn_10 ?_
    unfold wpY_deliver
    refine yy_in0 (Or.inl q) ?_
    exact br_t rfl ⟨rfl, R⟩
  · refine xx_no0 (Or.inr q) ?_
    refine br_f kn_10 ?_
    unfold wpY_deliver
    refine yy_in0 (Or.inr q) ?_
    exact br_t rfl ⟨rfl, R⟩
  · refine xx_no1 hb (by omega) ?_
    have ecl : (nI b).toNatClampNeg = b := nI_clamp (by omega)
    refine br_t rfl (And.intro (pk_in b 32 (by omega)) ?_)
    rw [ecl]
    by_cases z : a_delivered b = 0
    · have S' : zr_S md bk oP tk ic ni nu sc rs nh hd a_used a_timed a_amount (upd a_delivered b 1) := by
        obtain ⟨s1, s2, s3, s4, s5, s6, s7, s8, s9⟩ := S
        exact ⟨s1, s2, s3, s4, s5, s6, s7, s8, fun x hx => by rw [pk_un (by omega)]; exact s9 x hx⟩
      obtain ⟨an', tp', mn', ar', ch', row', K', fe', cl', st', fi', rw', rg', wr', cn', ra', fs', tr', ag', bf', yc', fr', w', wi', sp', ys', ya', aa', ba', g1, g2, g3, GX, GY⟩ := zz_arrive (a_used := a_used) (a_delivered := upd a_delivered b 1) (b_parent := b_parent) (b_work := b_work) (yo := yo) (an0 := an) N D 33 an 0 tp mn ar ch row K fe cl st fi rw rg wr cn ra fs tr ag bf yc fr w wi sp ys ya aa ba (by have := kz_cnt_le (fun b => ar b = 0) 32; omega) (Nat.le_refl _) B Z
      refine br_t z (And.intro (pk_in b 32 (by omega)) (nm_r (e' := upd a_delivered b 1) rfl ?_))
      refine GX _ ?_ 34 (by omega) _ (fun r h => ⟨34, h⟩)
      unfold wpY_deliver
      refine yy_in1 hb (by omega) ?_
      refine br_f kn_10 (And.intro (pk_in b 32 (by omega)) ?_)
      rw [ecl]
      refine br_t z (And.intro (pk_in b 32 (by omega)) (nm_r (e' := upd a_delivered b 1) rfl ⟨34, GY _ ?_ 34 (by omega)⟩))
      rw [Nat.zero_add]
      exact ⟨rfl, fun P h => h md bk an' tp' mn' oP tk ic ni nu sc rs nh hd pa he wk ar' ch' row' K' fe' cl' a_op a_number a_tokens a_used a_timed a_inCoin a_inA a_inB a_ins a_amount a_script a_outs a_parent a_height a_work a_holds a_held a_rewardScript (upd a_delivered b 1) st' fi' rw' rg' wr' cn' ra' fs' tr' ag' bf' aa' b_parent b_work ba' yc' fr' w' wi' sp' ys' ya' yo N D S' g2 g3⟩
    · refine br_f z ?_
      unfold wpY_deliver
      refine yy_in1 hb (by omega) ?_
      refine br_f kn_10 (And.intro (pk_in b 32 (by omega)) ?_)
      rw [ecl]
      exact br_f z ⟨rfl, R⟩
theorem i_vc_offer {k : Nat} {u : SX} {v : SY} (I : i_Rel k u v) (hk : k + 4 ≤ 2048) (v1 : Int32) : wpX_offer (fun r u' => wpY_offer (fun r' v' => r' = r ∧ i_Rel (k + 4) u' v') v v1) u v1 := by
  refine I (fun u v => wpX_offer (fun r u' => wpY_offer (fun r' v' => r' = r ∧ i_Rel (k + 4) u' v') v v1) u v1) ?_
  clear I u v
  intro md bk an tp mn oP tk ic ni nu sc rs nh hd pa he wk ar ch row K fe cl a_op a_number a_tokens a_used a_timed a_inCoin a_inA a_inB a_ins a_amount a_script a_outs a_parent a_height a_work a_holds a_held a_rewardScript a_delivered st fi rw rg wr cn ra fs tr ag bf aa b_parent b_work ba yc fr w wi sp ys ya yo N D S B Z
  obtain ⟨t1, t2, t3, t4⟩ := zz_top N Z
  obtain ⟨w', ys', yc', A', hc', W'⟩ := zz_walk (a_delivered := a_delivered) (cl := cl) (yc := yc) (w := w) (ys := ys) (ya := ya) (yo := yo) N D B Z
  obtain ⟨d1, d2, d3, d4, d5, d6, d7, d8⟩ := Z
  obtain ⟨r, mn', row', fe', st', fi', ra', fs', tr', yq', e1, e2, e3, e4, EX, EY⟩ := zz_step (f_arrivals := nI an) (f_agains := 0) (a_used := a_used) (a_delivered := a_delivered) (a_again := ag) (a_before := bf) (a_arrival := aa) (a_work := a_work) (g_arrivals := nI an) (b_parent := b_parent) (b_work := b_work) (b_arrived := ba) (rg := rg) (wr := wr) (cn := cn) (yc := yc') (ya := ya) (yo := yo) (cl := nI (tp + 1)) (v := v1) (rep := 1) (fe := fe) (st := st) (ys := ys') t1 t2 N D (dx_dy D B.1 B.2.1) (kc_I_up t4 (by omega)) d5 d6 d7 d4 d2.2.2.1 A'
  unfold wpX_offer
  refine EX _ ?_
  unfold wpY_offer
  refine W' _ ?_
  refine EY _ ?_
  exact ⟨rfl, fun P h => h md bk an tp mn' oP tk ic ni nu sc rs nh hd pa he wk ar ch row' K fe' (nI (tp + 1)) a_op a_number a_tokens a_used a_timed a_inCoin a_inA a_inB a_ins a_amount a_script a_outs a_parent a_height a_work a_holds a_held a_rewardScript a_delivered st' fi' rw rg wr cn ra' fs' tr' ag bf aa b_parent b_work ba yc' K.1 w' K.2.2.1 K.2.1 yq' ya yo N D S B ⟨d1, d2, d3, e1, e2, e3, e4, ky_TI t4⟩⟩
end
section
/-! ===== the questions ===== -/
theorem kn_le0 {n : Nat} {x : Int32} (h : nI n ≤ x) (hn : n < 2 ^ 31) : ¬ x < 0 := fun q => by
  have h1 := Int32.le_iff_toInt_le.mp h
  have h2 := Int32.lt_iff_toInt_lt.mp q
  rw [nI_toInt hn] at h1
  rw [show (0 : Int32).toInt = 0 from by decide] at h2
  omega
theorem kn_les {n : Nat} {x : Int32} (h : nI (n + 1) ≤ x) (hn : n + 1 < 2 ^ 31) : ¬ x ≤ nI n := fun q => by
  have h1 := Int32.le_iff_toInt_le.mp h
  have h2 := Int32.le_iff_toInt_le.mp q
  rw [nI_toInt hn] at h1
  rw [nI_toInt (by omega)] at h2
  omega
theorem i_vc_active {k : Nat} {u : SX} {v : SY} (I : i_Rel k u v) (hk : k + 4 ≤ 2048) (v1 : Int32) : wpX_active (fun r => wpY_active (fun r' v' => r' = r ∧ i_Rel (k + 4) u v') v v1) u v1 := by
  refine I (fun u v => wpX_active (fun r => wpY_active (fun r' v' => r' = r ∧ i_Rel (k + 4) u v') v v1) u v1) ?_
  clear I u v
  intro md bk an tp mn oP tk ic ni nu sc rs nh hd pa he wk ar ch row K fe cl a_op a_number a_tokens a_used a_timed a_inCoin a_inA a_inB a_ins a_amount a_script a_outs a_parent a_height a_work a_holds a_held a_rewardScript a_delivered st fi rw rg wr cn ra fs tr ag bf aa b_parent b_work ba yc fr w wi sp ys ya yo N D S B Z
  obtain ⟨t1, t2, t3, t4⟩ := zz_top N Z
  obtain ⟨w', ys', yc', A', hc', W'⟩ := zz_walk (a_delivered := a_delivered) (cl := cl) (yc := yc) (w := w) (ys := ys) (ya := ya) (yo := yo) N D B Z
  have R : i_Rel (k + 4) (nI md, nI bk, nI an, nI tp, nI mn, 0, fe, a_op, a_number, a_tokens, a_used, a_timed, st, a_inCoin, a_inA, a_inB, a_ins, a_amount, a_script, a_outs, fi, a_parent, a_height, a_work, a_holds, a_held, a_rewardScript, rw, a_delivered, aa, rg, wr, cn, K.1, K.2.1, K.2.2.1, ra, fs, tr, ag, bf) (nI md, nI bk, nI an, nI (ch tp), nI mn, nI (tp + 1), a_op, a_number, a_tokens, a_ins, a_inCoin, a_inA, a_inB, a_outs, a_amount, a_script, b_parent, b_work, a_rewardScript, a_height, a_holds, a_held, a_delivered, ba, ra, yc', K.1, w', K.2.2.1, K.2.1, ys', ya, yo) := fun P h => h md bk an tp mn oP tk ic ni nu sc rs nh hd pa he wk ar ch row K fe (nI (tp + 1)) a_op a_number a_tokens a_used a_timed a_inCoin a_inA a_inB a_ins a_amount a_script a_outs a_parent a_height a_work a_holds a_held a_rewardScript a_delivered st fi rw rg wr cn ra fs tr ag bf aa b_parent b_work ba yc' K.1 w' K.2.2.1 K.2.1 ys' ya yo N D S B (zz_T N Z)
  have d1 := Z.1
  have key : ∀ r : Int32, (v1 < 0 ∨ nI (tp + 1) ≤ v1 → r = -1) → (∀ h, h ≤ tp → v1 = nI h → r = nI (ch h)) → wpY_active (fun r' v' => r' = r ∧ i_Rel (k + 4) (nI md, nI bk, nI an, nI tp, nI mn, 0, fe, a_op, a_number, a_tokens, a_used, a_timed, st, a_inCoin, a_inA, a_inB, a_ins, a_amount, a_script, a_outs, fi, a_parent, a_height, a_work, a_holds, a_held, a_rewardScript, rw, a_delivered, aa, rg, wr, cn, K.1, K.2.1, K.2.2.1, ra, fs, tr, ag, bf) v') (nI md, nI bk, nI an, nI (ch tp), nI mn, cl, a_op, a_number, a_tokens, a_ins, a_inCoin, a_inA, a_inB, a_outs, a_amount, a_script, b_parent, b_work, a_rewardScript, a_height, a_holds, a_held, a_delivered, ba, ra, yc, fr, w, wi, sp, ys, ya, yo) v1 := by
    intro r k0 k1
    unfold wpY_active
    refine W' _ ?_
    rcases pk_ix v1 (n := tp + 1) (by omega) with q | q | ⟨h, hh, e⟩
    · refine yy_in0 (Or.inl q) ?_
      exact br_t rfl ⟨(k0 (Or.inl q)).symm, R⟩
    · refine yy_in0 (Or.inr q) ?_
      exact br_t rfl ⟨(k0 (Or.inr q)).symm, R⟩
    · rw [k1 h (by omega) e]
      subst e
      refine yy_in1 hh (by omega) ?_
      refine br_f kn_10 (And.intro (pk_in h 32 (by omega)) ⟨?_, R⟩)
      rw [nI_clamp (by omega)]; exact hc' h (by omega)
  rcases pk_ix v1 (n := tp + 1) (by omega) with q | q | ⟨h, hh, rfl⟩
  · exact br_t q (key _ (fun _ => rfl) (fun h hh e => by subst e; exact absurd q (nI_pos (by omega))))
  · exact br_f (kn_le0 q (by omega)) (br_f (kn_les q (by omega)) (key _ (fun _ => rfl) (fun h hh e => by subst e; exact absurd q (nI_ge (by omega) (by omega)))))
  · refine br_f (nI_pos (by omega)) (br_t (nI_le (by omega) (by omega)) (And.intro (pk_in h 32 (by omega)) (key _ (fun q => ?_) (fun h' hh' e => ?_))))
    · rcases q with q | q
      · exact absurd q (nI_pos (by omega))
      · exact absurd q (nI_ge (by omega) (by omega))
    · have : h = h' := (nI_eq (by omega) (by omega)).mp e
      subst this
      exact kn_at d1 h
theorem i_vc_coin {k : Nat} {u : SX} {v : SY} (I : i_Rel k u v) (hk : k + 4 ≤ 2048) (v1 : Int32) : wpX_coin (fun r => wpY_coin (fun r' v' => r' = r ∧ i_Rel (k + 4) u v') v v1) u v1 := by
  refine I (fun u v => wpX_coin (fun r => wpY_coin (fun r' v' => r' = r ∧ i_Rel (k + 4) u v') v v1) u v1) ?_
  clear I u v
  intro md bk an tp mn oP tk ic ni nu sc rs nh hd pa he wk ar ch row K fe cl a_op a_number a_tokens a_used a_timed a_inCoin a_inA a_inB a_ins a_amount a_script a_outs a_parent a_height a_work a_holds a_held a_rewardScript a_delivered st fi rw rg wr cn ra fs tr ag bf aa b_parent b_work ba yc fr w wi sp ys ya yo N D S B Z
  obtain ⟨t1, t2, t3, t4⟩ := zz_top N Z
  obtain ⟨w', ys', yc', A', hc', W'⟩ := zz_walk (a_delivered := a_delivered) (cl := cl) (yc := yc) (w := w) (ys := ys) (ya := ya) (yo := yo) N D B Z
  have R : i_Rel (k + 4) (nI md, nI bk, nI an, nI tp, nI mn, 0, fe, a_op, a_number, a_tokens, a_used, a_timed, st, a_inCoin, a_inA, a_inB, a_ins, a_amount, a_script, a_outs, fi, a_parent, a_height, a_work, a_holds, a_held, a_rewardScript, rw, a_delivered, aa, rg, wr, cn, K.1, K.2.1, K.2.2.1, ra, fs, tr, ag, bf) (nI md, nI bk, nI an, nI (ch tp), nI mn, nI (tp + 1), a_op, a_number, a_tokens, a_ins, a_inCoin, a_inA, a_inB, a_outs, a_amount, a_script, b_parent, b_work, a_rewardScript, a_height, a_holds, a_held, a_delivered, ba, ra, yc', K.1, w', K.2.2.1, K.2.1, ys', ya, yo) := fun P h => h md bk an tp mn oP tk ic ni nu sc rs nh hd pa he wk ar ch row K fe (nI (tp + 1)) a_op a_number a_tokens a_used a_timed a_inCoin a_inA a_inB a_ins a_amount a_script a_outs a_parent a_height a_work a_holds a_held a_rewardScript a_delivered st fi rw rg wr cn ra fs tr ag bf aa b_parent b_work ba yc' K.1 w' K.2.2.1 K.2.1 ys' ya yo N D S B (zz_T N Z)
  have R0 : i_Rel (k + 4) (nI md, nI bk, nI an, nI tp, nI mn, 0, fe, a_op, a_number, a_tokens, a_used, a_timed, st, a_inCoin, a_inA, a_inB, a_ins, a_amount, a_script, a_outs, fi, a_parent, a_height, a_work, a_holds, a_held, a_rewardScript, rw, a_delivered, aa, rg, wr, cn, K.1, K.2.1, K.2.2.1, ra, fs, tr, ag, bf) (nI md, nI bk, nI an, nI (ch tp), nI mn, cl, a_op, a_number, a_tokens, a_ins, a_inCoin, a_inA, a_inB, a_outs, a_amount, a_script, b_parent, b_work, a_rewardScript, a_height, a_holds, a_held, a_delivered, ba, ra, yc, fr, w, wi, sp, ys, ya, yo) := fun P h => h md bk an tp mn oP tk ic ni nu sc rs nh hd pa he wk ar ch row K fe cl a_op a_number a_tokens a_used a_timed a_inCoin a_inA a_inB a_ins a_amount a_script a_outs a_parent a_height a_work a_holds a_held a_rewardScript a_delivered st fi rw rg wr cn ra fs tr ag bf aa b_parent b_work ba yc fr w wi sp ys ya yo N D S B Z
  unfold wpX_coin
  have out : (v1 < 0 ∨ (152 : Int32) ≤ v1) → wpY_coin (fun r' v' => r' = 0 ∧ i_Rel (k + 4) (nI md, nI bk, nI an, nI tp, nI mn, 0, fe, a_op, a_number, a_tokens, a_used, a_timed, st, a_inCoin, a_inA, a_inB, a_ins, a_amount, a_script, a_outs, fi, a_parent, a_height, a_work, a_holds, a_held, a_rewardScript, rw, a_delivered, aa, rg, wr, cn, K.1, K.2.1, K.2.2.1, ra, fs, tr, ag, bf) v') (nI md, nI bk, nI an, nI (ch tp), nI mn, cl, a_op, a_number, a_tokens, a_ins, a_inCoin, a_inA, a_inB, a_outs, a_amount, a_script, b_parent, b_work, a_rewardScript, a_height, a_holds, a_held, a_delivered, ba, ra, yc, fr, w, wi, sp, ys, ya, yo) v1 := by
    intro q
    unfold wpY_coin
    refine yy_in0 q ?_
    exact br_t rfl ⟨rfl, R0⟩
  rcases pk_ix v1 (n := 152) (by omega) with q | q | ⟨c, hc, rfl⟩
  · refine xx_no0 (Or.inl q) ?_
    exact br_f kn_10 (out (Or.inl q))
  · refine xx_no0 (y := 152) (Or.inr q) ?_
    exact br_f kn_10 (out (Or.inr q))
  · have ecl : (nI c).toNatClampNeg = c := nI_clamp (by omega)
    have Yg : ∀ r : Int32, ((0 ≤ K.1 c → ((K.2.1 c = 0 → r = 2) ∧ (¬ K.2.1 c = 0 → r = 1))) ∧ (¬ 0 ≤ K.1 c → r = 0)) → wpY_coin (fun r' v' => r' = r ∧ i_Rel (k + 4) (nI md, nI bk, nI an, nI tp, nI mn, 0, fe, a_op, a_number, a_tokens, a_used, a_timed, st, a_inCoin, a_inA, a_inB, a_ins, a_amount, a_script, a_outs, fi, a_parent, a_height, a_work, a_holds, a_held, a_rewardScript, rw, a_delivered, aa, rg, wr, cn, K.1, K.2.1, K.2.2.1, ra, fs, tr, ag, bf) v') (nI md, nI bk, nI an, nI (ch tp), nI mn, cl, a_op, a_number, a_tokens, a_ins, a_inCoin, a_inA, a_inB, a_outs, a_amount, a_script, b_parent, b_work, a_rewardScript, a_height, a_holds, a_held, a_delivered, ba, ra, yc, fr, w, wi, sp, ys, ya, yo) (nI c) := by
      intro r g
      unfold wpY_coin
      refine yy_in1 (n := 152) hc (by omega) ?_
      refine br_f kn_10 (W' _ (And.intro (pk_in c 152 hc) ?_))
      rw [ecl]
      exact br_c (fun z => And.intro (pk_in c 152 hc) (br_c (fun y => ⟨((g.1 z).1 y).symm, R⟩) (fun y => ⟨((g.1 z).2 y).symm, R⟩))) (fun z => ⟨(g.2 z).symm, R⟩)
    refine xx_no1 (n := 152) hc (by omega) ?_
    refine br_t rfl (And.intro (pk_in c 152 hc) ?_)
    rw [ecl]
    exact br_c (fun z => And.intro (pk_in c 152 hc) (br_c (fun y => Yg _ ⟨fun _ => ⟨fun _ => rfl, fun q => absurd y q⟩, fun q => absurd z q⟩) (fun y => Yg _ ⟨fun _ => ⟨fun q => absurd q y, fun _ => rfl⟩, fun q => absurd z q⟩))) (fun z => Yg _ ⟨fun q => absurd q z, fun _ => rfl⟩)
theorem i_vc_at {k : Nat} {u : SX} {v : SY} (I : i_Rel k u v) (hk : k + 4 ≤ 2048) (v1 : Int32) : wpX_at (fun r => wpY_at (fun r' v' => r' = r ∧ i_Rel (k + 4) u v') v v1) u v1 := by
  refine I (fun u v => wpX_at (fun r => wpY_at (fun r' v' => r' = r ∧ i_Rel (k + 4) u v') v v1) u v1) ?_
  clear I u v
  intro md bk an tp mn oP tk ic ni nu sc rs nh hd pa he wk ar ch row K fe cl a_op a_number a_tokens a_used a_timed a_inCoin a_inA a_inB a_ins a_amount a_script a_outs a_parent a_height a_work a_holds a_held a_rewardScript a_delivered st fi rw rg wr cn ra fs tr ag bf aa b_parent b_work ba yc fr w wi sp ys ya yo N D S B Z
  have m40 := kd_md N
  obtain ⟨t1, t2, t3, t4⟩ := zz_top N Z
  obtain ⟨w', ys', yc', A', hc', W'⟩ := zz_walk (a_delivered := a_delivered) (cl := cl) (yc := yc) (w := w) (ys := ys) (ya := ya) (yo := yo) N D B Z
  have R : i_Rel (k + 4) (nI md, nI bk, nI an, nI tp, nI mn, 0, fe, a_op, a_number, a_tokens, a_used, a_timed, st, a_inCoin, a_inA, a_inB, a_ins, a_amount, a_script, a_outs, fi, a_parent, a_height, a_work, a_holds, a_held, a_rewardScript, rw, a_delivered, aa, rg, wr, cn, K.1, K.2.1, K.2.2.1, ra, fs, tr, ag, bf) (nI md, nI bk, nI an, nI (ch tp), nI mn, nI (tp + 1), a_op, a_number, a_tokens, a_ins, a_inCoin, a_inA, a_inB, a_outs, a_amount, a_script, b_parent, b_work, a_rewardScript, a_height, a_holds, a_held, a_delivered, ba, ra, yc', K.1, w', K.2.2.1, K.2.1, ys', ya, yo) := fun P h => h md bk an tp mn oP tk ic ni nu sc rs nh hd pa he wk ar ch row K fe (nI (tp + 1)) a_op a_number a_tokens a_used a_timed a_inCoin a_inA a_inB a_ins a_amount a_script a_outs a_parent a_height a_work a_holds a_held a_rewardScript a_delivered st fi rw rg wr cn ra fs tr ag bf aa b_parent b_work ba yc' K.1 w' K.2.2.1 K.2.1 ys' ya yo N D S B (zz_T N Z)
  have R0 : i_Rel (k + 4) (nI md, nI bk, nI an, nI tp, nI mn, 0, fe, a_op, a_number, a_tokens, a_used, a_timed, st, a_inCoin, a_inA, a_inB, a_ins, a_amount, a_script, a_outs, fi, a_parent, a_height, a_work, a_holds, a_held, a_rewardScript, rw, a_delivered, aa, rg, wr, cn, K.1, K.2.1, K.2.2.1, ra, fs, tr, ag, bf) (nI md, nI bk, nI an, nI (ch tp), nI mn, cl, a_op, a_number, a_tokens, a_ins, a_inCoin, a_inA, a_inB, a_outs, a_amount, a_script, b_parent, b_work, a_rewardScript, a_height, a_holds, a_held, a_delivered, ba, ra, yc, fr, w, wi, sp, ys, ya, yo) := fun P h => h md bk an tp mn oP tk ic ni nu sc rs nh hd pa he wk ar ch row K fe cl a_op a_number a_tokens a_used a_timed a_inCoin a_inA a_inB a_ins a_amount a_script a_outs a_parent a_height a_work a_holds a_held a_rewardScript a_delivered st fi rw rg wr cn ra fs tr ag bf aa b_parent b_work ba yc fr w wi sp ys ya yo N D S B Z
  have wm := kc_W_md (kd_T N) (fun b hb k hk => kd_hd N hb hk) (he (ch tp) + 1) (ch tp) K (by omega) t1 Z.2.1.2.1
  unfold wpX_at
  have out : (v1 < 0 ∨ nI md ≤ v1) → wpY_at (fun r' v' => r' = -1 ∧ i_Rel (k + 4) (nI md, nI bk, nI an, nI tp, nI mn, 0, fe, a_op, a_number, a_tokens, a_used, a_timed, st, a_inCoin, a_inA, a_inB, a_ins, a_amount, a_script, a_outs, fi, a_parent, a_height, a_work, a_holds, a_held, a_rewardScript, rw, a_delivered, aa, rg, wr, cn, K.1, K.2.1, K.2.2.1, ra, fs, tr, ag, bf) v') (nI md, nI bk, nI an, nI (ch tp), nI mn, cl, a_op, a_number, a_tokens, a_ins, a_inCoin, a_inA, a_inB, a_outs, a_amount, a_script, b_parent, b_work, a_rewardScript, a_height, a_holds, a_held, a_delivered, ba, ra, yc, fr, w, wi, sp, ys, ya, yo) v1 := by
    intro q
    unfold wpY_at
    refine yy_in0 q ?_
    exact br_t rfl ⟨rfl, R0⟩
  rcases pk_ix v1 (n := 40) (by omega) with q | q | ⟨t, ht, rfl⟩
  · refine xx_no0 (Or.inl q) ?_
    exact br_f kn_10 (out (Or.inl q))
  · refine xx_no0 (y := 40) (Or.inr q) ?_
    exact br_f kn_10 (out (Or.inr (Int32.le_trans (nI_le m40 (by omega)) q)))
  · have ecl : (nI t).toNatClampNeg = t := nI_clamp (by omega)
    refine xx_no1 (n := 40) ht (by omega) ?_
    refine br_t rfl (And.intro (pk_in t 40 ht) ?_)
    rw [ecl]
    by_cases z : t < md
    · unfold wpY_at
      refine yy_in1 z (by omega) ?_
      refine br_f kn_10 (W' _ (And.intro (pk_in t 40 ht) ?_))
      rw [ecl]
      exact ⟨rfl, R⟩
    · have e : K.2.2.1 t = -1 := by
        apply Classical.byContradiction
        intro q; exact z (wm t ht q)
      rw [e]
      exact out (Or.inr (nI_le (by omega) (by omega)))
theorem i_vc_pool {k : Nat} {u : SX} {v : SY} (I : i_Rel k u v) (hk : k + 4 ≤ 2048) (v1 : Int32) : wpX_pool (fun r => wpY_pool (fun r' => r' = r ∧ i_Rel (k + 4) u v) v v1) u v1 := by
  refine I (fun u v => wpX_pool (fun r => wpY_pool (fun r' => r' = r ∧ i_Rel (k + 4) u v) v v1) u v1) ?_
  clear I u v
  intro md bk an tp mn oP tk ic ni nu sc rs nh hd pa he wk ar ch row K fe cl a_op a_number a_tokens a_used a_timed a_inCoin a_inA a_inB a_ins a_amount a_script a_outs a_parent a_height a_work a_holds a_held a_rewardScript a_delivered st fi rw rg wr cn ra fs tr ag bf aa b_parent b_work ba yc fr w wi sp ys ya yo N D S B Z
  have R0 : i_Rel (k + 4) (nI md, nI bk, nI an, nI tp, nI mn, 0, fe, a_op, a_number, a_tokens, a_used, a_timed, st, a_inCoin, a_inA, a_inB, a_ins, a_amount, a_script, a_outs, fi, a_parent, a_height, a_work, a_holds, a_held, a_rewardScript, rw, a_delivered, aa, rg, wr, cn, K.1, K.2.1, K.2.2.1, ra, fs, tr, ag, bf) (nI md, nI bk, nI an, nI (ch tp), nI mn, cl, a_op, a_number, a_tokens, a_ins, a_inCoin, a_inA, a_inB, a_outs, a_amount, a_script, b_parent, b_work, a_rewardScript, a_height, a_holds, a_held, a_delivered, ba, ra, yc, fr, w, wi, sp, ys, ya, yo) := fun P h => h md bk an tp mn oP tk ic ni nu sc rs nh hd pa he wk ar ch row K fe cl a_op a_number a_tokens a_used a_timed a_inCoin a_inA a_inB a_ins a_amount a_script a_outs a_parent a_height a_work a_holds a_held a_rewardScript a_delivered st fi rw rg wr cn ra fs tr ag bf aa b_parent b_work ba yc fr w wi sp ys ya yo N D S B Z
  have p12 := Z.2.2.2.2.2.1.1
  unfold wpX_pool
  rcases pk_ix v1 (n := mn) (by omega) with q | q | ⟨j, hj, rfl⟩
  · refine xx_no0 (Or.inl q) ?_
    refine br_f kn_10 ?_
    unfold wpY_pool
    refine yy_in0 (Or.inl q) ?_
    exact br_t rfl ⟨rfl, R0⟩
  · refine xx_no0 (Or.inr q) ?_
    refine br_f kn_10 ?_
    unfold wpY_pool
    refine yy_in0 (Or.inr q) ?_
    exact br_t rfl ⟨rfl, R0⟩
  · refine xx_no1 hj (by omega) ?_
    refine br_t rfl (And.intro (pk_in j 12 (by omega)) ?_)
    unfold wpY_pool
    refine yy_in1 hj (by omega) ?_
    exact br_f kn_10 (And.intro (pk_in j 12 (by omega)) ⟨rfl, R0⟩)
theorem i_vc_fee {k : Nat} {u : SX} {v : SY} (I : i_Rel k u v) (hk : k + 4 ≤ 2048) (v1 : Int32) : wpX_fee (fun r => wpY_fee (fun r' v' => r' = r ∧ i_Rel (k + 4) u v') v v1) u v1 := by
  refine I (fun u v => wpX_fee (fun r => wpY_fee (fun r' v' => r' = r ∧ i_Rel (k + 4) u v') v v1) u v1) ?_
  clear I u v
  intro md bk an tp mn oP tk ic ni nu sc rs nh hd pa he wk ar ch row K fe cl a_op a_number a_tokens a_used a_timed a_inCoin a_inA a_inB a_ins a_amount a_script a_outs a_parent a_height a_work a_holds a_held a_rewardScript a_delivered st fi rw rg wr cn ra fs tr ag bf aa b_parent b_work ba yc fr w wi sp ys ya yo N D S B Z
  have m40 := kd_md N
  obtain ⟨w', ys', yc', A', hc', W'⟩ := zz_walk (a_delivered := a_delivered) (cl := cl) (yc := yc) (w := w) (ys := ys) (ya := ya) (yo := yo) N D B Z
  have R : i_Rel (k + 4) (nI md, nI bk, nI an, nI tp, nI mn, 0, fe, a_op, a_number, a_tokens, a_used, a_timed, st, a_inCoin, a_inA, a_inB, a_ins, a_amount, a_script, a_outs, fi, a_parent, a_height, a_work, a_holds, a_held, a_rewardScript, rw, a_delivered, aa, rg, wr, cn, K.1, K.2.1, K.2.2.1, ra, fs, tr, ag, bf) (nI md, nI bk, nI an, nI (ch tp), nI mn, nI (tp + 1), a_op, a_number, a_tokens, a_ins, a_inCoin, a_inA, a_inB, a_outs, a_amount, a_script, b_parent, b_work, a_rewardScript, a_height, a_holds, a_held, a_delivered, ba, ra, yc', K.1, w', K.2.2.1, K.2.1, ys', ya, yo) := fun P h => h md bk an tp mn oP tk ic ni nu sc rs nh hd pa he wk ar ch row K fe (nI (tp + 1)) a_op a_number a_tokens a_used a_timed a_inCoin a_inA a_inB a_ins a_amount a_script a_outs a_parent a_height a_work a_holds a_held a_rewardScript a_delivered st fi rw rg wr cn ra fs tr ag bf aa b_parent b_work ba yc' K.1 w' K.2.2.1 K.2.1 ys' ya yo N D S B (zz_T N Z)
  have R0 : i_Rel (k + 4) (nI md, nI bk, nI an, nI tp, nI mn, 0, fe, a_op, a_number, a_tokens, a_used, a_timed, st, a_inCoin, a_inA, a_inB, a_ins, a_amount, a_script, a_outs, fi, a_parent, a_height, a_work, a_holds, a_held, a_rewardScript, rw, a_delivered, aa, rg, wr, cn, K.1, K.2.1, K.2.2.1, ra, fs, tr, ag, bf) (nI md, nI bk, nI an, nI (ch tp), nI mn, cl, a_op, a_number, a_tokens, a_ins, a_inCoin, a_inA, a_inB, a_outs, a_amount, a_script, b_parent, b_work, a_rewardScript, a_height, a_holds, a_held, a_delivered, ba, ra, yc, fr, w, wi, sp, ys, ya, yo) := fun P h => h md bk an tp mn oP tk ic ni nu sc rs nh hd pa he wk ar ch row K fe cl a_op a_number a_tokens a_used a_timed a_inCoin a_inA a_inB a_ins a_amount a_script a_outs a_parent a_height a_work a_holds a_held a_rewardScript a_delivered st fi rw rg wr cn ra fs tr ag bf aa b_parent b_work ba yc fr w wi sp ys ya yo N D S B Z
  have p12 := Z.2.2.2.2.2.1.1
  have P := Z.2.2.2.2.2.1
  have Hr := Z.2.2.2.2.1
  have X := Z.2.2.2.2.2.2.1
  unfold wpX_fee
  rcases pk_ix v1 (n := mn) (by omega) with q | q | ⟨j, hj, rfl⟩
  · refine xx_no0 (Or.inl q) ?_
    refine br_f kn_10 ?_
    unfold wpY_fee
    refine yy_in0 (Or.inl q) ?_
    exact br_t rfl ⟨rfl, R0⟩
  · refine xx_no0 (Or.inr q) ?_
    refine br_f kn_10 ?_
    unfold wpY_fee
    refine yy_in0 (Or.inr q) ?_
    exact br_t rfl ⟨rfl, R0⟩
  · have rj := P.2.1 j hj
    refine xx_no1 hj (by omega) ?_
    refine br_t rfl (And.intro (pk_in j 12 (by omega)) ?_)
    unfold wpY_fee
    refine yy_in1 hj (by omega) ?_
    refine br_f kn_10 (W' _ (And.intro (pk_in j 12 (by omega)) ?_))
    rw [kn_at Hr j]
    refine yy_feeOf (by omega) (dx_dy D B.1 B.2.1) ⟨?_, R⟩
    rw [nI_clamp (by omega), X.1 j hj]
    refine (kp_fee_eq (kd_D N) (fun i h1 h2 => ?_) Z.2.1.2.2.1 A').symm
    rcases P.2.2.2.1 j hj i h1 h2 with q | q
    · exact Or.inr q
    · exact Or.inl q.1
/-- balances -/
def ks_bal (fr sp : Nat → Int32) (s : Nat → Nat) (val : Nat → Int32) (v1 : Int32) : Nat → Nat → Int64 → Int64
  | 0, _, a => a
  | m + 1, c, a => ks_bal fr sp s val v1 m (c + 1) (if ¬ fr c < 0 ∧ sp c = 0 ∧ nI (s c) = v1 then a + (val c).toInt64 else a)
theorem ks_cg {fr sp : Nat → Int32} {s : Nat → Nat} {val val' : Nat → Int32} {v1 : Int32} : ∀ (m c : Nat) (a : Int64), (∀ j, c ≤ j → j < c + m → ¬ fr j < 0 → val j = val' j) → ks_bal fr sp s val v1 m c a = ks_bal fr sp s val' v1 m c a
  | 0, _, _, _ => rfl
  | m + 1, c, a, h => by
    show ks_bal fr sp s val v1 m (c + 1) (if ¬ fr c < 0 ∧ sp c = 0 ∧ nI (s c) = v1 then a + (val c).toInt64 else a) = ks_bal fr sp s val' v1 m (c + 1) (if ¬ fr c < 0 ∧ sp c = 0 ∧ nI (s c) = v1 then a + (val' c).toInt64 else a)
    by_cases z : ¬ fr c < 0 ∧ sp c = 0 ∧ nI (s c) = v1
    · rw [if_pos z, if_pos z, h c (Nat.le_refl _) (by omega) z.1]
      exact ks_cg m (c + 1) _ (fun j h1 h2 => h j (by omega) (by omega))
    · rw [if_neg z, if_neg z]
      exact ks_cg m (c + 1) _ (fun j h1 h2 => h j (by omega) (by omega))
theorem ks_0 {fr sp : Nat → Int32} {s : Nat → Nat} {val : Nat → Int32} {v1 : Int32} (h : ∀ c, nI (s c) ≠ v1) : ∀ (m c : Nat) (a : Int64), ks_bal fr sp s val v1 m c a = a
  | 0, _, _ => rfl
  | m + 1, c, a => by
    show ks_bal fr sp s val v1 m (c + 1) (if ¬ fr c < 0 ∧ sp c = 0 ∧ nI (s c) = v1 then a + (val c).toInt64 else a) = a
    rw [if_neg (fun q => h c q.2.2)]
    exact ks_0 h m (c + 1) a
section
variable {f_made f_blocks f_arrivals f_top f_many f_agains f_feeNow : Int32} {a_op a_number a_tokens a_used a_timed a_stack a_inCoin a_inA a_inB a_ins a_amount a_script a_outs a_fitting a_parent a_height a_work a_holds a_held a_rewardScript a_reward a_delivered a_arrival a_right a_wrong a_chain a_born a_spent a_since a_row a_fees a_taker a_again a_before : Nat → Int32} {oP tk ic ni nu sc rs nh hd pa he : Nat → Nat} {md bk : Nat}
theorem xx_bal {post : Int64 → Prop} {v1 : Int32} (D : kx_D a_op a_number a_tokens a_timed a_inCoin a_ins a_outs a_script a_rewardScript a_holds a_held a_parent a_height oP tk ic ni nu sc rs nh hd pa he) : ∀ (m c : Nat) (a : Int64) (n : Nat), c + m = 152 → m < n → post (ks_bal a_born a_spent (kx_s sc rs) (kc_av a_amount a_reward) v1 m c a) → wX_balance_5 post v1 f_made f_blocks f_arrivals f_top f_many f_agains f_feeNow a_op a_number a_tokens a_used a_timed a_stack a_inCoin a_inA a_inB a_ins a_amount a_script a_outs a_fitting a_parent a_height a_work a_holds a_held a_rewardScript a_reward a_delivered a_arrival a_right a_wrong a_chain a_born a_spent a_since a_row a_fees a_taker a_again a_before n a (nI c) := by
  intro m
  induction m with
  | zero =>
    intro c a n e hn hp
    obtain ⟨n, rfl⟩ : ∃ n', n = n' + 1 := ⟨n - 1, by omega⟩
    exact pk_le 152 c (fun _ => hp) (fun z => by omega)
  | succ m ih =>
    intro c a n e hn hp
    obtain ⟨n, rfl⟩ : ∃ n', n = n' + 1 := ⟨n - 1, by omega⟩
    have ecl : (nI c).toNatClampNeg = c := nI_clamp (by omega)
    have hp : post (ks_bal a_born a_spent (kx_s sc rs) (kc_av a_amount a_reward) v1 m (c + 1) (if ¬ a_born c < 0 ∧ a_spent c = 0 ∧ nI (kx_s sc rs c) = v1 then a + (kc_av a_amount a_reward c).toInt64 else a)) := hp
    refine pk_le 152 c (fun z => by omega) (fun _ => And.intro (pk_in c 152 (by omega)) ?_)
    rw [ecl]
    refine br_c (fun z => ?_) (fun z => And.intro (pk_in c 152 (by omega)) (br_c (fun y => ?_) (fun y => ?_)))
    · rw [if_neg (fun q => q.1 z)] at hp
      exact nm_r (nI_1 c) (ih (c + 1) a n (by omega) (by omega) hp)
    · refine xx_scriptOf (by omega) D (br_c (fun x => ?_) (fun x => ?_))
      · rw [if_pos ⟨z, y, x⟩] at hp
        exact xx_amountOf (by omega) (nm_e (nm_r (nI_1 c) (ih (c + 1) _ n (by omega) (by omega) hp)))
      · rw [if_neg (fun q => x q.2.2)] at hp
        exact nm_r (nI_1 c) (ih (c + 1) a n (by omega) (by omega) hp)
    · rw [if_neg (fun q => y q.2.1)] at hp
      exact nm_r (nI_1 c) (ih (c + 1) a n (by omega) (by omega) hp)
end
section
variable {g_made g_blocks g_arrivals g_tip g_pooled g_chainLength : Int32} {b_op b_arg b_length b_ins b_inCoin b_inA b_inB b_outs b_amount b_lock b_parent b_work b_rewardLock b_height b_many b_holds b_delivered b_arrived b_pool b_chain b_from b_worth b_within b_spent b_stack b_again b_chosen : Nat → Int32} {oP tk ic ni nu sc rs nh hd pa he : Nat → Nat} {md bk : Nat}
theorem yy_bal {post : Int64 → SY → Prop} {v1 : Int32} (D : ky_D b_op b_arg b_length b_inCoin b_ins b_outs b_lock b_rewardLock b_many b_holds b_parent b_height oP tk ic ni nu sc rs nh hd pa he) : ∀ (m c : Nat) (a : Int64) (n : Nat), c + m = 152 → m < n → post (ks_bal b_from b_spent (kx_s sc rs) b_worth v1 m c a) (g_made, g_blocks, g_arrivals, g_tip, g_pooled, g_chainLength, b_op, b_arg, b_length, b_ins, b_inCoin, b_inA, b_inB, b_outs, b_amount, b_lock, b_parent, b_work, b_rewardLock, b_height, b_many, b_holds, b_delivered, b_arrived, b_pool, b_chain, b_from, b_worth, b_within, b_spent, b_stack, b_again, b_chosen) → wY_balance_25 post v1 g_made g_blocks g_arrivals g_tip g_pooled g_chainLength b_op b_arg b_length b_ins b_inCoin b_inA b_inB b_outs b_amount b_lock b_parent b_work b_rewardLock b_height b_many b_holds b_delivered b_arrived b_pool b_chain b_from b_worth b_within b_spent b_stack b_again b_chosen n a (nI c) := by
  intro m
  induction m with
  | zero =>
    intro c a n e hn hp
    obtain ⟨n, rfl⟩ : ∃ n', n = n' + 1 := ⟨n - 1, by omega⟩
    exact pk_le 152 c (fun _ => hp) (fun z => by omega)
  | succ m ih =>
    intro c a n e hn hp
    obtain ⟨n, rfl⟩ : ∃ n', n = n' + 1 := ⟨n - 1, by omega⟩
    have ecl : (nI c).toNatClampNeg = c := nI_clamp (by omega)
    have hp : post (ks_bal b_from b_spent (kx_s sc rs) b_worth v1 m (c + 1) (if ¬ b_from c < 0 ∧ b_spent c = 0 ∧ nI (kx_s sc rs c) = v1 then a + (b_worth c).toInt64 else a)) (g_made, g_blocks, g_arrivals, g_tip, g_pooled, g_chainLength, b_op, b_arg, b_length, b_ins, b_inCoin, b_inA, b_inB, b_outs, b_amount, b_lock, b_parent, b_work, b_rewardLock, b_height, b_many, b_holds, b_delivered, b_arrived, b_pool, b_chain, b_from, b_worth, b_within, b_spent, b_stack, b_again, b_chosen) := hp
    have go : wY_balance_60 post (wY_balance_25 post v1 g_made g_blocks g_arrivals g_tip g_pooled g_chainLength b_op b_arg b_length b_ins b_inCoin b_inA b_inB b_outs b_amount b_lock b_parent b_work b_rewardLock b_height b_many b_holds b_delivered b_arrived b_pool b_chain b_from b_worth b_within b_spent b_stack b_again b_chosen n) v1 a (nI c) (nI (kx_s sc rs c)) g_made g_blocks g_arrivals g_tip g_pooled g_chainLength b_op b_arg b_length b_ins b_inCoin b_inA b_inB b_outs b_amount b_lock b_parent b_work b_rewardLock b_height b_many b_holds b_delivered b_arrived b_pool b_chain b_from b_worth b_within b_spent b_stack b_again b_chosen := by
      unfold wY_balance_60
      refine And.intro (pk_in c 152 (by omega)) ?_
      rw [ecl]
      refine br_c (fun z => ?_) (fun z => And.intro (pk_in c 152 (by omega)) (br_c (fun y => br_c (fun x => ?_) (fun x => ?_)) (fun y => ?_)))
      · rw [if_neg (fun q => q.1 z)] at hp
        exact nm_r (nI_1 c) (ih (c + 1) a n (by omega) (by omega) hp)
      · rw [if_pos ⟨z, y, x⟩] at hp
        exact And.intro (pk_in c 152 (by omega)) (nm_e (nm_r (nI_1 c) (ih (c + 1) _ n (by omega) (by omega) hp)))
      · rw [if_neg (fun q => x q.2.2)] at hp
        exact nm_r (nI_1 c) (ih (c + 1) a n (by omega) (by omega) hp)
      · rw [if_neg (fun q => y q.2.1)] at hp
        exact nm_r (nI_1 c) (ih (c + 1) a n (by omega) (by omega) hp)
    refine pk_le 152 c (fun z => by omega) (fun _ => pk_le 120 c (fun z => ?_) (fun z => And.intro (pk_in c 123 (by omega)) ?_))
    · have e : nI c - 120 = nI (c - 120) := pk_sub (b := 120) z
      refine And.intro (pk_in (c - 120) 33 (by omega) e) ?_
      rw [kn_at (dy_rs D) (c - 120) e]
      have : kx_s sc rs c = rs (c - 120) := if_neg (by omega)
      rw [this] at go; exact go
    · rw [kn_at (dy_sc D) c]
      have : kx_s sc rs c = sc c := if_pos z
      rw [this] at go; exact go
end
theorem i_vc_balance {k : Nat} {u : SX} {v : SY} (I : i_Rel k u v) (hk : k + 4 ≤ 2048) (v1 : Int32) : wpX_balance (fun r => wpY_balance (fun r' v' => r' = r ∧ i_Rel (k + 4) u v') v v1) u v1 := by
  refine I (fun u v => wpX_balance (fun r => wpY_balance (fun r' v' => r' = r ∧ i_Rel (k + 4) u v') v v1) u v1) ?_
  clear I u v
  intro md bk an tp mn oP tk ic ni nu sc rs nh hd pa he wk ar ch row K fe cl a_op a_number a_tokens a_used a_timed a_inCoin a_inA a_inB a_ins a_amount a_script a_outs a_parent a_height a_work a_holds a_held a_rewardScript a_delivered st fi rw rg wr cn ra fs tr ag bf aa b_parent b_work ba yc fr w wi sp ys ya yo N D S B Z
  obtain ⟨w', ys', yc', A', hc', W'⟩ := zz_walk (a_delivered := a_delivered) (cl := cl) (yc := yc) (w := w) (ys := ys) (ya := ya) (yo := yo) N D B Z
  have R : i_Rel (k + 4) (nI md, nI bk, nI an, nI tp, nI mn, 0, fe, a_op, a_number, a_tokens, a_used, a_timed, st, a_inCoin, a_inA, a_inB, a_ins, a_amount, a_script, a_outs, fi, a_parent, a_height, a_work, a_holds, a_held, a_rewardScript, rw, a_delivered, aa, rg, wr, cn, K.1, K.2.1, K.2.2.1, ra, fs, tr, ag, bf) (nI md, nI bk, nI an, nI (ch tp), nI mn, nI (tp + 1), a_op, a_number, a_tokens, a_ins, a_inCoin, a_inA, a_inB, a_outs, a_amount, a_script, b_parent, b_work, a_rewardScript, a_height, a_holds, a_held, a_delivered, ba, ra, yc', K.1, w', K.2.2.1, K.2.1, ys', ya, yo) := fun P h => h md bk an tp mn oP tk ic ni nu sc rs nh hd pa he wk ar ch row K fe (nI (tp + 1)) a_op a_number a_tokens a_used a_timed a_inCoin a_inA a_inB a_ins a_amount a_script a_outs a_parent a_height a_work a_holds a_held a_rewardScript a_delivered st fi rw rg wr cn ra fs tr ag bf aa b_parent b_work ba yc' K.1 w' K.2.2.1 K.2.1 ys' ya yo N D S B (zz_T N Z)
  have R0 : i_Rel (k + 4) (nI md, nI bk, nI an, nI tp, nI mn, 0, fe, a_op, a_number, a_tokens, a_used, a_timed, st, a_inCoin, a_inA, a_inB, a_ins, a_amount, a_script, a_outs, fi, a_parent, a_height, a_work, a_holds, a_held, a_rewardScript, rw, a_delivered, aa, rg, wr, cn, K.1, K.2.1, K.2.2.1, ra, fs, tr, ag, bf) (nI md, nI bk, nI an, nI (ch tp), nI mn, cl, a_op, a_number, a_tokens, a_ins, a_inCoin, a_inA, a_inB, a_outs, a_amount, a_script, b_parent, b_work, a_rewardScript, a_height, a_holds, a_held, a_delivered, ba, ra, yc, fr, w, wi, sp, ys, ya, yo) := fun P h => h md bk an tp mn oP tk ic ni nu sc rs nh hd pa he wk ar ch row K fe cl a_op a_number a_tokens a_used a_timed a_inCoin a_inA a_inB a_ins a_amount a_script a_outs a_parent a_height a_work a_holds a_held a_rewardScript a_delivered st fi rw rg wr cn ra fs tr ag bf aa b_parent b_work ba yc fr w wi sp ys ya yo N D S B Z
  refine ⟨153, xx_bal D 152 0 0 _ rfl (by omega) ?_⟩
  unfold wpY_balance
  have s8 : ∀ c, kx_s sc rs c < 8 := kx_s8 (kn_l (dx_sc D)) (kn_l (dx_rs D))
  rcases pk_ix v1 (n := 8) (by omega) with q | q | ⟨s, hs, rfl⟩
  · refine yy_in0 (Or.inl q) ?_
    rw [ks_0 (fun c e => by rw [← e] at q; exact absurd q (nI_pos (by have := s8 c; omega)))]
    exact br_t rfl ⟨rfl, R0⟩
  · refine yy_in0 (y := 8) (Or.inr q) ?_
    rw [ks_0 (fun c e => by rw [← e] at q; exact absurd q (nI_ge (s8 c) (by omega)))]
    exact br_t rfl ⟨rfl, R0⟩
  · refine yy_in1 (n := 8) hs (by omega) ?_
    refine br_f kn_10 (W' _ ⟨153, yy_bal (dx_dy D B.1 B.2.1) 152 0 0 _ rfl (by omega) ⟨?_, R⟩⟩)
    exact ks_cg 152 0 0 (fun j h1 h2 z => by rw [A' j (by omega) z, Z.2.1.2.2.1 j (by omega) z])
end
section
/-! ===== block ===== -/
theorem kc_W_own {ic ni nu : Nat → Nat} {am : Nat → Int32} {fit : Nat → Int32 → Int32 → Bool} {nh hd pa he : Nat → Nat} {bk b : Nat} {K : kc_K} (T : kc_T bk pa he) (hb : b < bk) (e : kc_W ic ni nu am fit nh hd pa he b = some K) : K.1 (120 + b) = nI (he b) := by
  by_cases z : he b = 0
  · rw [kc_W_0 z] at e
    obtain ⟨p, _, e2⟩ := kc_blk_some e
    rw [e2, z]; exact pk_us
  · obtain ⟨K', _, e2⟩ := kc_W_some (kc_T_s T hb (by omega)) e
    obtain ⟨p, _, e3⟩ := kc_blk_some e2
    rw [e3]; exact pk_us
section
variable {md bk an tp mn : Nat} {oP tk ic ni nu sc rs nh hd pa he wk ar ch row : Nat → Nat} {K : kc_K} {fe cl : Int32} {a_op a_number a_tokens a_used a_timed a_inCoin a_inA a_inB a_ins a_amount a_script a_outs a_parent a_height a_work a_holds a_held a_rewardScript a_delivered st fi rw rg wr cn ra fs tr ag bf aa b_parent b_work ba yc fr w wi sp ys ya yo : Nat → Int32}
theorem zz_valid {b : Nat} (hb : b < bk) (N : kd_N oP tk ic ni nu sc rs nh hd pa he md bk) (D : kx_D a_op a_number a_tokens a_timed a_inCoin a_ins a_outs a_script a_rewardScript a_holds a_held a_parent a_height oP tk ic ni nu sc rs nh hd pa he) (Z : zr_D (kc_W ic ni nu a_amount (kf_fit oP a_number tk ic a_inA a_inB sc rs) nh hd pa he) (kf_C md ni a_timed (fun i => kx_s sc rs (ic i)) (kf_fit oP a_number tk ic a_inA a_inB sc rs)) bk md pa he ic ni nu a_amount tp mn ch row K fi rw rg wr cn ra fs tr fr wi sp) :
    ∃ (ch' : Nat → Nat) (fe' : Int32) (st' fi' rw' rg' wr' cn' : Nat → Int32), ch' tp = ch tp ∧ zr_D (kc_W ic ni nu a_amount (kf_fit oP a_number tk ic a_inA a_inB sc rs) nh hd pa he) (kf_C md ni a_timed (fun i => kx_s sc rs (ic i)) (kf_fit oP a_number tk ic a_inA a_inB sc rs)) bk md pa he ic ni nu a_amount tp mn ch' row K fi' rw' rg' wr' cn' ra fs tr fr wi sp ∧
    (∀ Kb, kc_W ic ni nu a_amount (kf_fit oP a_number tk ic a_inA a_inB sc rs) nh hd pa he b = some Kb → rw' b = Kb.2.2.2 (120 + b)) ∧
    ∀ post : Int32 → SX → Prop, post (kn_b (kc_W ic ni nu a_amount (kf_fit oP a_number tk ic a_inA a_inB sc rs) nh hd pa he b).isSome) (nI md, nI bk, nI an, nI tp, nI mn, 0, fe', a_op, a_number, a_tokens, a_used, a_timed, st', a_inCoin, a_inA, a_inB, a_ins, a_amount, a_script, a_outs, fi', a_parent, a_height, a_work, a_holds, a_held, a_rewardScript, rw', a_delivered, aa, rg', wr', cn', K.1, K.2.1, K.2.2.1, ra, fs, tr, ag, bf) → wpX_isValid post (nI md, nI bk, nI an, nI tp, nI mn, 0, fe, a_op, a_number, a_tokens, a_used, a_timed, st, a_inCoin, a_inA, a_inB, a_ins, a_amount, a_script, a_outs, fi, a_parent, a_height, a_work, a_holds, a_held, a_rewardScript, rw, a_delivered, aa, rg, wr, cn, K.1, K.2.1, K.2.2.1, ra, fs, tr, ag, bf) (nI b) := by
  have b32 := kd_bk N
  obtain ⟨t1, t2, t3, t4⟩ := zz_top N Z
  have Z0 := Z
  obtain ⟨d1, d2, d3, d4, d5, d6, d7, d8⟩ := Z
  have ecl : (nI b).toNatClampNeg = b := nI_clamp (by omega)
  have val : ∀ {rw rg wr : Nat → Int32}, kx_V (kc_W ic ni nu a_amount (kf_fit oP a_number tk ic a_inA a_inB sc rs) nh hd pa he) bk rw rg wr → rg b = 1 → ∃ Kb, kc_W ic ni nu a_amount (kf_fit oP a_number tk ic a_inA a_inB sc rs) nh hd pa he b = some Kb ∧ rw b = Kb.2.2.2 (120 + b) := fun {rw rg wr} V e => by
    rcases V.1 b with z | ⟨_, _, z⟩
    · rw [e] at z; exact absurd z (by decide)
    · exact z
  have val0 : ∀ {rw rg wr : Nat → Int32}, kx_V (kc_W ic ni nu a_amount (kf_fit oP a_number tk ic a_inA a_inB sc rs) nh hd pa he) bk rw rg wr → kc_W ic ni nu a_amount (kf_fit oP a_number tk ic a_inA a_inB sc rs) nh hd pa he b = none → rg b = 0 := fun {rw rg wr} V e => by
    rcases V.1 b with z | ⟨_, _, K', z, _⟩
    · exact z
    · rw [e] at z; exact nomatch z
  rcases d3.2 b with wz | ⟨wz, _, wn⟩
  · rcases d3.1 b with gz | ⟨gz, _, Kb, gk, gr⟩
    · obtain ⟨tp1, cn1, ch1, K1, fe1, st1, fi1, rw1, rg1, wr1, C1, O1, R1⟩ := xx_reorganise (f_made := nI md) (f_arrivals := nI an) (f_many := nI mn) (f_agains := 0) (a_op := a_op) (a_number := a_number) (a_tokens := a_tokens) (a_used := a_used) (a_timed := a_timed) (a_inCoin := a_inCoin) (a_inA := a_inA) (a_inB := a_inB) (a_ins := a_ins) (a_amount := a_amount) (a_script := a_script) (a_outs := a_outs) (a_parent := a_parent) (a_height := a_height) (a_work := a_work) (a_holds := a_holds) (a_held := a_held) (a_rewardScript := a_rewardScript) (a_delivered := a_delivered) (a_arrival := aa) (a_row := ra) (a_fees := fs) (a_taker := tr) (a_again := ag) (a_before := bf) hb N D (fe := fe) (st := st) d1 d3 d4 d2
      obtain ⟨o1, o2, o3, o4, o5, o6⟩ := O1
      obtain ⟨tp2, cn2, ch2, K2, fe2, st2, fi2, rw2, rg2, wr2, C2, O2, R2⟩ := xx_reorganise (f_made := nI md) (f_arrivals := nI an) (f_many := nI mn) (f_agains := 0) (a_op := a_op) (a_number := a_number) (a_tokens := a_tokens) (a_used := a_used) (a_timed := a_timed) (a_inCoin := a_inCoin) (a_inA := a_inA) (a_inB := a_inB) (a_ins := a_ins) (a_amount := a_amount) (a_script := a_script) (a_outs := a_outs) (a_parent := a_parent) (a_height := a_height) (a_work := a_work) (a_holds := a_holds) (a_held := a_held) (a_rewardScript := a_rewardScript) (a_delivered := a_delivered) (a_arrival := aa) (a_row := ra) (a_fees := fs) (a_taker := tr) (a_again := ag) (a_before := bf) t1 N D (fe := fe1) (st := st1) o1 o3 C1 o2
      obtain ⟨p1, p2, p3, p4, p5, p6⟩ := O2
      have et : ch2 tp2 = ch tp := by
        rcases p6 with q | q
        · exact q.1
        · rw [d2.2.1] at q; exact nomatch q.1
      have z2 := p2.1.1 tp2 (Nat.le_refl _)
      have etp : tp2 = tp := by rw [← z2.2, et, t2]
      subst etp
      have eK : K2 = K := by
        have := p2.2.1
        rw [et, d2.2.1] at this
        exact (Option.some.inj this).symm
      subst eK
      have fin : rg2 b = kn_b (kc_W ic ni nu a_amount (kf_fit oP a_number tk ic a_inA a_inB sc rs) nh hd pa he b).isSome := by
        cases q : kc_W ic ni nu a_amount (kf_fit oP a_number tk ic a_inA a_inB sc rs) nh hd pa he b with
        | none => exact val0 p3 q
        | some Kb =>
          rcases o6 with y | y
          · refine p4 b ?_
            rw [← y.1]; exact o2.2.2.2 tp1 (Nat.le_refl _)
          · rw [q] at y; exact nomatch y.1
      refine ⟨ch2, fe2, st2, fi2, rw2, rg2, wr2, cn2, et, ⟨p1, p2, p3, C2, d5, d6, kp_X_rw (kd_D N) d6 d2.2.2.1 p2.2.2.1 d7, d8⟩, fun Kb ek => ?_, fun post hp => ?_⟩
      · have : rg2 b = 1 := by rw [fin, ek]; rfl
        obtain ⟨K', e1, e2⟩ := val p3 this
        rw [ek] at e1
        rw [Option.some.inj e1]; exact e2
      · refine And.intro (pk_in b 32 (by omega)) ?_
        rw [ecl]
        refine br_t wz (And.intro (pk_in b 32 (by omega)) (br_t gz (And.intro (pk_in tp2 32 t3) (nm_r (kn_at d1 tp2) (R1 _ ?_)))))
        refine R2 _ (And.intro (pk_in b 32 (by omega)) ?_)
        rw [fin]
        exact And.intro (kn_nb (kn_b01 _)) hp
    · refine ⟨ch, fe, st, fi, rw, rg, wr, cn, rfl, Z0, fun K' ek => by rw [gk] at ek; rw [← Option.some.inj ek]; exact gr, fun post hp => ?_⟩
      rw [gk] at hp
      refine And.intro (pk_in b 32 (by omega)) ?_
      rw [ecl, gz]
      exact br_t wz (And.intro (pk_in b 32 (by omega)) (br_f kn_10 (And.intro (pk_in b 32 (by omega)) (And.intro narrow_b1 hp))))
  · refine ⟨ch, fe, st, fi, rw, rg, wr, cn, rfl, Z0, fun K' ek => (by rw [wn] at ek; exact nomatch ek), fun post hp => ?_⟩
    rw [wn] at hp
    refine And.intro (pk_in b 32 (by omega)) ?_
    rw [ecl, val0 d3 wn]
    exact br_f (by rw [wz]; decide) (And.intro (pk_in b 32 (by omega)) (And.intro narrow_b0 hp))
end
theorem i_vc_block {k : Nat} {u : SX} {v : SY} (I : i_Rel k u v) (hk : k + 4 ≤ 2048) (v1 : Int32) (v2 : Int32) : wpX_block (fun r u' => wpY_block (fun r' v' => r' = r ∧ i_Rel (k + 4) u' v') v v1 v2) u v1 v2 := by
  refine I (fun u v => wpX_block (fun r u' => wpY_block (fun r' v' => r' = r ∧ i_Rel (k + 4) u' v') v v1 v2) u v1 v2) ?_
  clear I u v
  intro md bk an tp mn oP tk ic ni nu sc rs nh hd pa he wk ar ch row K fe cl a_op a_number a_tokens a_used a_timed a_inCoin a_inA a_inB a_ins a_amount a_script a_outs a_parent a_height a_work a_holds a_held a_rewardScript a_delivered st fi rw rg wr cn ra fs tr ag bf aa b_parent b_work ba yc fr w wi sp ys ya yo N D S B Z
  have b32 := kd_bk N
  have DY := dx_dy D B.1 B.2.1
  obtain ⟨r1, r2, r3, r4, r5, r6, r7, r8, r9, r10, r11, r12⟩ := id B
  obtain ⟨t1, t2, t3, t4⟩ := zz_top N Z
  have R0 : i_Rel (k + 4) (nI md, nI bk, nI an, nI tp, nI mn, 0, fe, a_op, a_number, a_tokens, a_used, a_timed, st, a_inCoin, a_inA, a_inB, a_ins, a_amount, a_script, a_outs, fi, a_parent, a_height, a_work, a_holds, a_held, a_rewardScript, rw, a_delivered, aa, rg, wr, cn, K.1, K.2.1, K.2.2.1, ra, fs, tr, ag, bf) (nI md, nI bk, nI an, nI (ch tp), nI mn, cl, a_op, a_number, a_tokens, a_ins, a_inCoin, a_inA, a_inB, a_outs, a_amount, a_script, b_parent, b_work, a_rewardScript, a_height, a_holds, a_held, a_delivered, ba, ra, yc, fr, w, wi, sp, ys, ya, yo) := fun P h => h md bk an tp mn oP tk ic ni nu sc rs nh hd pa he wk ar ch row K fe cl a_op a_number a_tokens a_used a_timed a_inCoin a_inA a_inB a_ins a_amount a_script a_outs a_parent a_height a_work a_holds a_held a_rewardScript a_delivered st fi rw rg wr cn ra fs tr ag bf aa b_parent b_work ba yc fr w wi sp ys ya yo N D S B Z
  have bad : (v1 < 0 ∨ nI bk ≤ v1) ∨ ((∃ b, b < bk ∧ v1 = nI b) ∧ (v2 < 0 ∨ (4 : Int32) ≤ v2)) → wpY_block (fun r' v' => r' = -1 ∧ i_Rel (k + 4) (nI md, nI bk, nI an, nI tp, nI mn, 0, fe, a_op, a_number, a_tokens, a_used, a_timed, st, a_inCoin, a_inA, a_inB, a_ins, a_amount, a_script, a_outs, fi, a_parent, a_height, a_work, a_holds, a_held, a_rewardScript, rw, a_delivered, aa, rg, wr, cn, K.1, K.2.1, K.2.2.1, ra, fs, tr, ag, bf) v') (nI md, nI bk, nI an, nI (ch tp), nI mn, cl, a_op, a_number, a_tokens, a_ins, a_inCoin, a_inA, a_inB, a_outs, a_amount, a_script, b_parent, b_work, a_rewardScript, a_height, a_holds, a_held, a_delivered, ba, ra, yc, fr, w, wi, sp, ys, ya, yo) v1 v2 := by
    intro q
    unfold wpY_block
    rcases q with q | ⟨⟨b, hb, rfl⟩, q⟩
    · refine yy_in0 q ?_
      exact br_t rfl ⟨rfl, R0⟩
    · refine yy_in1 hb (by omega) ?_
      refine br_f kn_10 ?_
      refine yy_in0 q ?_
      exact br_t rfl ⟨rfl, R0⟩
  unfold wpX_block
  rcases pk_ix v1 (n := bk) (by omega) with q | q | ⟨b, hb, rfl⟩
  · refine xx_no0 (Or.inl q) ?_
    exact br_f kn_10 (bad (Or.inl (Or.inl q)))
  · refine xx_no0 (Or.inr q) ?_
    exact br_f kn_10 (bad (Or.inl (Or.inr q)))
  · refine xx_no1 hb (by omega) ?_
    refine br_t rfl ?_
    have ecl : (nI b).toNatClampNeg = b := nI_clamp (by omega)
    have hl := kc_T_l (kd_T N) hb
    rcases pk_ix v2 (n := 4) (by omega) with q | q | ⟨x, hx, rfl⟩
    · exact br_t q (bad (Or.inr ⟨⟨b, hb, rfl⟩, Or.inl q⟩))
    · refine br_f (kn_le0 (n := 4) q (by omega)) (br_t ?_ (bad (Or.inr ⟨⟨b, hb, rfl⟩, Or.inr q⟩)))
      exact Int32.not_le.mp (kn_les (n := 3) q (by omega))
    · refine br_f (nI_pos (by omega)) (br_f (nI_nlt (a := 3) (b := x) (by omega) (by omega)) ?_)
      have Yin : ∀ (post : Int32 → SY → Prop), ((nI x = 1 → vp_in (nI b) 33 ∧ post (a_height (nI b).toNatClampNeg) (nI md, nI bk, nI an, nI (ch tp), nI mn, cl, a_op, a_number, a_tokens, a_ins, a_inCoin, a_inA, a_inB, a_outs, a_amount, a_script, b_parent, b_work, a_rewardScript, a_height, a_holds, a_held, a_delivered, ba, ra, yc, fr, w, wi, sp, ys, ya, yo)) ∧ (¬ nI x = 1 → ((nI x = 2 → wpY_workOf (fun r => post r (nI md, nI bk, nI an, nI (ch tp), nI mn, cl, a_op, a_number, a_tokens, a_ins, a_inCoin, a_inA, a_inB, a_outs, a_amount, a_script, b_parent, b_work, a_rewardScript, a_height, a_holds, a_held, a_delivered, ba, ra, yc, fr, w, wi, sp, ys, ya, yo)) (nI md, nI bk, nI an, nI (ch tp), nI mn, cl, a_op, a_number, a_tokens, a_ins, a_inCoin, a_inA, a_inB, a_outs, a_amount, a_script, b_parent, b_work, a_rewardScript, a_height, a_holds, a_held, a_delivered, ba, ra, yc, fr, w, wi, sp, ys, ya, yo) (nI b)) ∧ (¬ nI x = 2 → wpY_walk (fun r_7 u => match u with | (g_made, g_blocks, g_arrivals, g_tip, g_pooled, g_chainLength, b_op, b_arg, b_length, b_ins, b_inCoin, b_inA, b_inB, b_outs, b_amount, b_lock, b_parent, b_work, b_rewardLock, b_height, b_many, b_holds, b_delivered, b_arrived, b_pool, b_chain, b_from, b_worth, b_within, b_spent, b_stack, b_again, b_chosen) => (((nI x = 3 → (((r_7 = 0 → (post 0 (g_made, g_blocks, g_arrivals, g_tip, g_pooled, g_chainLength, b_op, b_arg, b_length, b_ins, b_inCoin, b_inA, b_inB, b_outs, b_amount, b_lock, b_parent, b_work, b_rewardLock, b_height, b_many, b_holds, b_delivered, b_arrived, b_pool, b_chain, b_from, b_worth, b_within, b_spent, b_stack, b_again, b_chosen))) ∧ (¬ r_7 = 0 → (vp_in (nI b) 32 ∧ ((((b_arrived (nI b).toNatClampNeg) < 0 → (post 0 (g_made, g_blocks, g_arrivals, g_tip, g_pooled, g_chainLength, b_op, b_arg, b_length, b_ins, b_inCoin, b_inA, b_inB, b_outs, b_amount, b_lock, b_parent, b_work, b_rewardLock, b_height, b_many, b_holds, b_delivered, b_arrived, b_pool, b_chain, b_from, b_worth, b_within, b_spent, b_stack, b_again, b_chosen))) ∧ (¬ (b_arrived (nI b).toNatClampNeg) < 0 → (vp_in (120 + nI b) 152 ∧ (post (b_worth (120 + nI b).toNatClampNeg) (g_made, g_blocks, g_arrivals, g_tip, g_pooled, g_chainLength, b_op, b_arg, b_length, b_ins, b_inCoin, b_inA, b_inB, b_outs, b_amount, b_lock, b_parent, b_work, b_rewardLock, b_height, b_many, b_holds, b_delivered, b_arrived, b_pool, b_chain, b_from, b_worth, b_within, b_spent, b_stack, b_again, b_chosen))))))))))) ∧ (¬ nI x = 3 → (vp_in (nI b) 32 ∧ ((((b_delivered (nI b).toNatClampNeg) = 0 → (post 0 (g_made, g_blocks, g_arrivals, g_tip, g_pooled, g_chainLength, b_op, b_arg, b_length, b_ins, b_inCoin, b_inA, b_inB, b_outs, b_amount, b_lock, b_parent, b_work, b_rewardLock, b_height, b_many, b_holds, b_delivered, b_arrived, b_pool, b_chain, b_from, b_worth, b_within, b_spent, b_stack, b_again, b_chosen))) ∧ (¬ (b_delivered (nI b).toNatClampNeg) = 0 → (vp_in (nI b) 32 ∧ (((0 ≤ (b_arrived (nI b).toNatClampNeg) → (((r_7 = 0 → (post 2 (g_made, g_blocks, g_arrivals, g_tip, g_pooled, g_chainLength, b_op, b_arg, b_length, b_ins, b_inCoin, b_inA, b_inB, b_outs, b_amount, b_lock, b_parent, b_work, b_rewardLock, b_height, b_many, b_holds, b_delivered, b_arrived, b_pool, b_chain, b_from, b_worth, b_within, b_spent, b_stack, b_again, b_chosen))) ∧ (¬ r_7 = 0 → (wpY_walk (fun _ u => match u with | (g_made, g_blocks, g_arrivals, g_tip, g_pooled, g_chainLength, b_op, b_arg, b_length, b_ins, b_inCoin, b_inA, b_inB, b_outs, b_amount, b_lock, b_parent, b_work, b_rewardLock, b_height, b_many, b_holds, b_delivered, b_arrived, b_pool, b_chain, b_from, b_worth, b_within, b_spent, b_stack, b_again, b_chosen) => (vp_in (nI b) 33 ∧ (((g_chainLength ≤ (b_height (nI b).toNatClampNeg) → (post 3 (g_made, g_blocks, g_arrivals, g_tip, g_pooled, g_chainLength, b_op, b_arg, b_length, b_ins, b_inCoin, b_inA, b_inB, b_outs, b_amount, b_lock, b_parent, b_work, b_rewardLock, b_height, b_many, b_holds, b_delivered, b_arrived, b_pool, b_chain, b_from, b_worth, b_within, b_spent, b_stack, b_again, b_chosen))) ∧ (¬ g_chainLength ≤ (b_height (nI b).toNatClampNeg) → (vp_in (nI b) 33 ∧ (vp_in (b_height (nI b).toNatClampNeg) 32 ∧ ((((b_chain (b_height (nI b).toNatClampNeg).toNatClampNeg) = nI b → (post 4 (g_made, g_blocks, g_arrivals, g_tip, g_pooled, g_chainLength, b_op, b_arg, b_length, b_ins, b_inCoin, b_inA, b_inB, b_outs, b_amount, b_lock, b_parent, b_work, b_rewardLock, b_height, b_many, b_holds, b_delivered, b_arrived, b_pool, b_chain, b_from, b_worth, b_within, b_spent, b_stack, b_again, b_chosen))) ∧ (¬ (b_chain (b_height (nI b).toNatClampNeg).toNatClampNeg) = nI b → (post 3 (g_made, g_blocks, g_arrivals, g_tip, g_pooled, g_chainLength, b_op, b_arg, b_length, b_ins, b_inCoin, b_inA, b_inB, b_outs, b_amount, b_lock, b_parent, b_work, b_rewardLock, b_height, b_many, b_holds, b_delivered, b_arrived, b_pool, b_chain, b_from, b_worth, b_within, b_spent, b_stack, b_again, b_chosen)))))))))))) (g_made, g_blocks, g_arrivals, g_tip, g_pooled, g_chainLength, b_op, b_arg, b_length, b_ins, b_inCoin, b_inA, b_inB, b_outs, b_amount, b_lock, b_parent, b_work, b_rewardLock, b_height, b_many, b_holds, b_delivered, b_arrived, b_pool, b_chain, b_from, b_worth, b_within, b_spent, b_stack, b_again, b_chosen) g_tip))))) ∧ (¬ 0 ≤ (b_arrived (nI b).toNatClampNeg) → (post 1 (g_made, g_blocks, g_arrivals, g_tip, g_pooled, g_chainLength, b_op, b_arg, b_length, b_ins, b_inCoin, b_inA, b_inB, b_outs, b_amount, b_lock, b_parent, b_work, b_rewardLock, b_height, b_many, b_holds, b_delivered, b_arrived, b_pool, b_chain, b_from, b_worth, b_within, b_spent, b_stack, b_again, b_chosen)))))))))))))) (nI md, nI bk, nI an, nI (ch tp), nI mn, cl, a_op, a_number, a_tokens, a_ins, a_inCoin, a_inA, a_inB, a_outs, a_amount, a_script, b_parent, b_work, a_rewardScript, a_height, a_holds, a_held, a_delivered, ba, ra, yc, fr, w, wi, sp, ys, ya, yo) (nI b))))) → wpY_block post (nI md, nI bk, nI an, nI (ch tp), nI mn, cl, a_op, a_number, a_tokens, a_ins, a_inCoin, a_inA, a_inB, a_outs, a_amount, a_script, b_parent, b_work, a_rewardScript, a_height, a_holds, a_held, a_delivered, ba, ra, yc, fr, w, wi, sp, ys, ya, yo) (nI b) (nI x) := by
        intro post W
        unfold wpY_block
        refine yy_in1 hb (by omega) ?_
        refine br_f kn_10 ?_
        refine yy_in1 (n := 4) hx (by omega) ?_
        exact br_f kn_10 W
      have x4 : x = 0 ∨ x = 1 ∨ x = 2 ∨ x = 3 := by omega
      -- Y goes through the chain of b
      obtain ⟨Y1, Y0⟩ := yy_walk (g_made := nI md) (g_blocks := nI bk) (g_arrivals := nI an) (g_tip := nI (ch tp)) (g_pooled := nI mn) (g_chainLength := cl) (b_op := a_op) (b_arg := a_number) (b_length := a_tokens) (b_ins := a_ins) (b_inCoin := a_inCoin) (b_inA := a_inA) (b_inB := a_inB) (b_outs := a_outs) (b_amount := a_amount) (b_lock := a_script) (b_parent := b_parent) (b_work := b_work) (b_rewardLock := a_rewardScript) (b_height := a_height) (b_many := a_holds) (b_holds := a_held) (b_delivered := a_delivered) (b_arrived := ba) (b_pool := ra) (b_chain := yc) (b_from := fr) (b_worth := w) (b_within := wi) (b_spent := sp) (b_stack := ys) (b_again := ya) (b_chosen := yo) hb N DY Z.2.2.2.2.2.2.2
      have arr : ba b = nI (ar b) - 1 := r6 b (by omega)
      have ab : ar b < 33 := kn_l r5 b
      have in32 : vp_in (nI b) 32 := pk_in b 32 (by omega)
      rcases x4 with rfl | rfl | rfl | rfl
      · -- where it stands
        refine br_t rfl (And.intro in32 ?_)
        rw [ecl, kn_e r5 b]
        -- Y, whatever the walk gives
        have YW : ∀ (post : Int32 → SY → Prop) (r : Int32) (fr1 sp1 wi1 w1 ys1 yc1 : Nat → Int32) (cl1 : Int32), r = kn_b (kc_W ic ni nu a_amount (kf_fit oP a_number tk ic a_inA a_inB sc rs) nh hd pa he b).isSome → ky_T fr1 sp1 wi1 → (∀ post' : Int32 → SY → Prop, post' r (nI md, nI bk, nI an, nI (ch tp), nI mn, cl1, a_op, a_number, a_tokens, a_ins, a_inCoin, a_inA, a_inB, a_outs, a_amount, a_script, b_parent, b_work, a_rewardScript, a_height, a_holds, a_held, a_delivered, ba, ra, yc1, fr1, w1, wi1, sp1, ys1, ya, yo) → wpY_walk post' (nI md, nI bk, nI an, nI (ch tp), nI mn, cl, a_op, a_number, a_tokens, a_ins, a_inCoin, a_inA, a_inB, a_outs, a_amount, a_script, b_parent, b_work, a_rewardScript, a_height, a_holds, a_held, a_delivered, ba, ra, yc, fr, w, wi, sp, ys, ya, yo) (nI b)) →
            (a_delivered b = 0 → post 0 (nI md, nI bk, nI an, nI (ch tp), nI mn, cl1, a_op, a_number, a_tokens, a_ins, a_inCoin, a_inA, a_inB, a_outs, a_amount, a_script, b_parent, b_work, a_rewardScript, a_height, a_holds, a_held, a_delivered, ba, ra, yc1, fr1, w1, wi1, sp1, ys1, ya, yo)) →
            (¬ a_delivered b = 0 → ar b = 0 → post 1 (nI md, nI bk, nI an, nI (ch tp), nI mn, cl1, a_op, a_number, a_tokens, a_ins, a_inCoin, a_inA, a_inB, a_outs, a_amount, a_script, b_parent, b_work, a_rewardScript, a_height, a_holds, a_held, a_delivered, ba, ra, yc1, fr1, w1, wi1, sp1, ys1, ya, yo)) →
            (¬ a_delivered b = 0 → ar b ≠ 0 → (kc_W ic ni nu a_amount (kf_fit oP a_number tk ic a_inA a_inB sc rs) nh hd pa he b).isSome = false → post 2 (nI md, nI bk, nI an, nI (ch tp), nI mn, cl1, a_op, a_number, a_tokens, a_ins, a_inCoin, a_inA, a_inB, a_outs, a_amount, a_script, b_parent, b_work, a_rewardScript, a_height, a_holds, a_held, a_delivered, ba, ra, yc1, fr1, w1, wi1, sp1, ys1, ya, yo)) →
            (¬ a_delivered b = 0 → ar b ≠ 0 → (kc_W ic ni nu a_amount (kf_fit oP a_number tk ic a_inA a_inB sc rs) nh hd pa he b).isSome = true → ∀ w' ys' yc', (∀ h, h ≤ tp → yc' h = nI (ch h)) → ((he b ≤ tp ∧ ch (he b) = b) → post 4 (nI md, nI bk, nI an, nI (ch tp), nI mn, nI (tp + 1), a_op, a_number, a_tokens, a_ins, a_inCoin, a_inA, a_inB, a_outs, a_amount, a_script, b_parent, b_work, a_rewardScript, a_height, a_holds, a_held, a_delivered, ba, ra, yc', K.1, w', K.2.2.1, K.2.1, ys', ya, yo)) ∧ (¬ (he b ≤ tp ∧ ch (he b) = b) → post 3 (nI md, nI bk, nI an, nI (ch tp), nI mn, nI (tp + 1), a_op, a_number, a_tokens, a_ins, a_inCoin, a_inA, a_inB, a_outs, a_amount, a_script, b_parent, b_work, a_rewardScript, a_height, a_holds, a_held, a_delivered, ba, ra, yc', K.1, w', K.2.2.1, K.2.1, ys', ya, yo))) →
            wpY_block post (nI md, nI bk, nI an, nI (ch tp), nI mn, cl, a_op, a_number, a_tokens, a_ins, a_inCoin, a_inA, a_inB, a_outs, a_amount, a_script, b_parent, b_work, a_rewardScript, a_height, a_holds, a_held, a_delivered, ba, ra, yc, fr, w, wi, sp, ys, ya, yo) (nI b) (nI 0) := by
          intro post r fr1 sp1 wi1 w1 ys1 yc1 cl1 er T1 W1 k0 k1 k2 k3
          refine Yin post (br_f (by decide) (br_f (by decide) (W1 _ (br_f (by decide) (And.intro in32 ?_)))))
          rw [ecl]
          refine br_c (fun z => k0 z) (fun z => And.intro in32 ?_)
          have ge : (0 ≤ ba b ↔ ar b ≠ 0) := by
            rw [show ba b = nI (ar b) - 1 from arr, ← Int32.not_lt, kn_am1 (by omega)]
          refine br_c (fun y => ?_) (fun y => k1 z (by apply Classical.byContradiction; intro q; exact y (ge.mpr q)))
          have ya' := ge.mp y
          rw [er]
          cases g : (kc_W ic ni nu a_amount (kf_fit oP a_number tk ic a_inA a_inB sc rs) nh hd pa he b).isSome with
          | false => exact br_t rfl (k2 z ya' g)
          | true =>
            refine br_f kn_10 ?_
            obtain ⟨w', ys', yc', A', hc', W'⟩ := zz_walk (a_delivered := a_delivered) (cl := cl1) (yc := yc1) (fr := fr1) (w := w1) (wi := wi1) (sp := sp1) (ys := ys1) (ya := ya) (yo := yo) N D B ⟨Z.1, Z.2.1, Z.2.2.1, Z.2.2.2.1, Z.2.2.2.2.1, Z.2.2.2.2.2.1, Z.2.2.2.2.2.2.1, T1⟩
            have K3 := k3 z ya' g w' ys' yc' hc'
            refine W' _ (And.intro (pk_in b 33 (by omega)) ?_)
            rw [kn_e (dx_he D) b]
            refine pk_le (tp + 1) (he b) (fun q => K3.2 (fun y => by omega)) (fun q => And.intro (pk_in b 33 (by omega)) (And.intro (pk_in (he b) 32 hl) ?_))
            rw [nI_clamp (by omega), hc' (he b) (by omega)]
            have cb := (Z.2.1.1.1 (he b) (by omega)).1
            exact pk_eq (ch (he b)) b (fun y => K3.1 ⟨by omega, y⟩) (fun y => K3.2 (fun w => y w.2))
        have YG : ∀ (post : Int32 → SY → Prop),
            (a_delivered b = 0 → ∀ (fr1 sp1 wi1 w1 ys1 yc1 : Nat → Int32) (cl1 : Int32), ky_T fr1 sp1 wi1 → post 0 (nI md, nI bk, nI an, nI (ch tp), nI mn, cl1, a_op, a_number, a_tokens, a_ins, a_inCoin, a_inA, a_inB, a_outs, a_amount, a_script, b_parent, b_work, a_rewardScript, a_height, a_holds, a_held, a_delivered, ba, ra, yc1, fr1, w1, wi1, sp1, ys1, ya, yo)) →
            (¬ a_delivered b = 0 → ar b = 0 → ∀ (fr1 sp1 wi1 w1 ys1 yc1 : Nat → Int32) (cl1 : Int32), ky_T fr1 sp1 wi1 → post 1 (nI md, nI bk, nI an, nI (ch tp), nI mn, cl1, a_op, a_number, a_tokens, a_ins, a_inCoin, a_inA, a_inB, a_outs, a_amount, a_script, b_parent, b_work, a_rewardScript, a_height, a_holds, a_held, a_delivered, ba, ra, yc1, fr1, w1, wi1, sp1, ys1, ya, yo)) →
            (¬ a_delivered b = 0 → ar b ≠ 0 → (kc_W ic ni nu a_amount (kf_fit oP a_number tk ic a_inA a_inB sc rs) nh hd pa he b).isSome = false → ∀ (fr1 sp1 wi1 w1 ys1 yc1 : Nat → Int32) (cl1 : Int32), ky_T fr1 sp1 wi1 → post 2 (nI md, nI bk, nI an, nI (ch tp), nI mn, cl1, a_op, a_number, a_tokens, a_ins, a_inCoin, a_inA, a_inB, a_outs, a_amount, a_script, b_parent, b_work, a_rewardScript, a_height, a_holds, a_held, a_delivered, ba, ra, yc1, fr1, w1, wi1, sp1, ys1, ya, yo)) →
            (¬ a_delivered b = 0 → ar b ≠ 0 → (kc_W ic ni nu a_amount (kf_fit oP a_number tk ic a_inA a_inB sc rs) nh hd pa he b).isSome = true → ∀ w' ys' yc', ((he b ≤ tp ∧ ch (he b) = b) → post 4 (nI md, nI bk, nI an, nI (ch tp), nI mn, nI (tp + 1), a_op, a_number, a_tokens, a_ins, a_inCoin, a_inA, a_inB, a_outs, a_amount, a_script, b_parent, b_work, a_rewardScript, a_height, a_holds, a_held, a_delivered, ba, ra, yc', K.1, w', K.2.2.1, K.2.1, ys', ya, yo)) ∧ (¬ (he b ≤ tp ∧ ch (he b) = b) → post 3 (nI md, nI bk, nI an, nI (ch tp), nI mn, nI (tp + 1), a_op, a_number, a_tokens, a_ins, a_inCoin, a_inA, a_inB, a_outs, a_amount, a_script, b_parent, b_work, a_rewardScript, a_height, a_holds, a_held, a_delivered, ba, ra, yc', K.1, w', K.2.2.1, K.2.1, ys', ya, yo))) →
            wpY_block post (nI md, nI bk, nI an, nI (ch tp), nI mn, cl, a_op, a_number, a_tokens, a_ins, a_inCoin, a_inA, a_inB, a_outs, a_amount, a_script, b_parent, b_work, a_rewardScript, a_height, a_holds, a_held, a_delivered, ba, ra, yc, fr, w, wi, sp, ys, ya, yo) (nI b) (nI 0) := by
          intro post k0 k1 k2 k3
          cases g : kc_W ic ni nu a_amount (kf_fit oP a_number tk ic a_inA a_inB sc rs) nh hd pa he b with
          | none =>
            obtain ⟨cl', cn', fr', sp', wi', w', st', T', Rn⟩ := Y0 g
            exact YW post 0 fr' sp' wi' w' st' cn' cl' (by rw [g]; rfl) T' Rn (fun z => k0 z _ _ _ _ _ _ _ T') (fun z y => k1 z y _ _ _ _ _ _ _ T') (fun z y q => k2 z y q _ _ _ _ _ _ _ T') (fun z y q w' ys' yc' _ => k3 z y q w' ys' yc')
          | some Kb =>
            obtain ⟨w', st', c, C, ce, A, Rn⟩ := Y1 Kb g
            have T' := ky_TI (kc_W_I' (kd_D N) (kd_T N) hb g)
            exact YW post 1 _ _ _ w' st' _ _ (by rw [g]; rfl) T' Rn (fun z => k0 z _ _ _ _ _ _ _ T') (fun z y => k1 z y _ _ _ _ _ _ _ T') (fun z y q => k2 z y q _ _ _ _ _ _ _ T') (fun z y q w' ys' yc' _ => k3 z y q w' ys' yc')
        have Rg : ∀ (fr1 sp1 wi1 w1 ys1 yc1 : Nat → Int32) (cl1 : Int32), ky_T fr1 sp1 wi1 → i_Rel (k + 4) (nI md, nI bk, nI an, nI tp, nI mn, 0, fe, a_op, a_number, a_tokens, a_used, a_timed, st, a_inCoin, a_inA, a_inB, a_ins, a_amount, a_script, a_outs, fi, a_parent, a_height, a_work, a_holds, a_held, a_rewardScript, rw, a_delivered, aa, rg, wr, cn, K.1, K.2.1, K.2.2.1, ra, fs, tr, ag, bf) (nI md, nI bk, nI an, nI (ch tp), nI mn, cl1, a_op, a_number, a_tokens, a_ins, a_inCoin, a_inA, a_inB, a_outs, a_amount, a_script, b_parent, b_work, a_rewardScript, a_height, a_holds, a_held, a_delivered, ba, ra, yc1, fr1, w1, wi1, sp1, ys1, ya, yo) := fun fr1 sp1 wi1 w1 ys1 yc1 cl1 T1 => fun P h => h md bk an tp mn oP tk ic ni nu sc rs nh hd pa he wk ar ch row K fe cl1 a_op a_number a_tokens a_used a_timed a_inCoin a_inA a_inB a_ins a_amount a_script a_outs a_parent a_height a_work a_holds a_held a_rewardScript a_delivered st fi rw rg wr cn ra fs tr ag bf aa b_parent b_work ba yc1 fr1 w1 wi1 sp1 ys1 ya yo N D S B ⟨Z.1, Z.2.1, Z.2.2.1, Z.2.2.2.1, Z.2.2.2.2.1, Z.2.2.2.2.2.1, Z.2.2.2.2.2.2.1, T1⟩
        have TK := ky_TI t4
        refine br_c (fun z => ?_) (fun z => And.intro in32 (pk_eq (ar b) 0 (fun y => ?_) (fun y => ?_)))
        · exact YG _ (fun _ f1 f2 f3 f4 f5 f6 f7 T1 => ⟨rfl, Rg f1 f2 f3 f4 f5 f6 f7 T1⟩) (fun q => absurd z q) (fun q => absurd z q) (fun q => absurd z q)
        · exact YG _ (fun q => absurd q z) (fun _ _ f1 f2 f3 f4 f5 f6 f7 T1 => ⟨rfl, Rg f1 f2 f3 f4 f5 f6 f7 T1⟩) (fun _ q => absurd y q) (fun _ q => absurd y q)
        · -- active, or valid, or not
          have ia : ∀ post : Int32 → Prop, ((he b ≤ tp ∧ ch (he b) = b) → post 1) → (¬ (he b ≤ tp ∧ ch (he b) = b) → post 0) → wpX_isActive post (nI md, nI bk, nI an, nI tp, nI mn, 0, fe, a_op, a_number, a_tokens, a_used, a_timed, st, a_inCoin, a_inA, a_inB, a_ins, a_amount, a_script, a_outs, fi, a_parent, a_height, a_work, a_holds, a_held, a_rewardScript, rw, a_delivered, aa, rg, wr, cn, K.1, K.2.1, K.2.2.1, ra, fs, tr, ag, bf) (nI b) := by
            intro post k1 k0
            have eh := kn_at (dx_he D) b
            refine And.intro in32 (pk_lt tp (he b) (fun q => k0 (fun y => by omega)) (fun q => And.intro in32 (And.intro (pk_in (he b) 32 hl eh) ?_)) rfl eh)
            rw [eh, nI_clamp (by omega), kn_e Z.1 (he b)]
            have cb := (Z.2.1.1.1 (he b) (by omega)).1
            exact pk_eq (ch (he b)) b (fun y => k1 ⟨by omega, y⟩) (fun y => k0 (fun w => y w.2))
          refine ia _ (fun ac => br_f kn_10 ?_) (fun nac => br_t rfl ?_)
          · have some' : (kc_W ic ni nu a_amount (kf_fit oP a_number tk ic a_inA a_inB sc rs) nh hd pa he b).isSome = true := by
              rcases Z.2.2.1.1 b with gz | ⟨_, _, Kb, gk, _⟩
              · have := Z.2.1.2.2.2 (he b) ac.1
                rw [ac.2, gz] at this; exact absurd this (by decide)
              · rw [gk]; rfl
            exact YG _ (fun q => absurd q z) (fun _ q => absurd q y) (fun _ _ q => by rw [some'] at q; exact nomatch q) (fun _ _ _ w' ys' yc' => ⟨fun _ => ⟨rfl, Rg _ _ _ _ _ _ _ TK⟩, fun q => absurd ac q⟩)
          · obtain ⟨ch', fe', st', fi', rw', rg', wr', cn', ec, Z', _, VX⟩ := zz_valid (a_used := a_used) (a_delivered := a_delivered) (a_work := a_work) (an := an) (aa := aa) (ag := ag) (bf := bf) (fe := fe) (st := st) hb N D Z
            refine VX _ ?_
            have Rh : ∀ (fr1 sp1 wi1 w1 ys1 yc1 : Nat → Int32) (cl1 : Int32), ky_T fr1 sp1 wi1 → i_Rel (k + 4) (nI md, nI bk, nI an, nI tp, nI mn, 0, fe', a_op, a_number, a_tokens, a_used, a_timed, st', a_inCoin, a_inA, a_inB, a_ins, a_amount, a_script, a_outs, fi', a_parent, a_height, a_work, a_holds, a_held, a_rewardScript, rw', a_delivered, aa, rg', wr', cn', K.1, K.2.1, K.2.2.1, ra, fs, tr, ag, bf) (nI md, nI bk, nI an, nI (ch tp), nI mn, cl1, a_op, a_number, a_tokens, a_ins, a_inCoin, a_inA, a_inB, a_outs, a_amount, a_script, b_parent, b_work, a_rewardScript, a_height, a_holds, a_held, a_delivered, ba, ra, yc1, fr1, w1, wi1, sp1, ys1, ya, yo) := fun fr1 sp1 wi1 w1 ys1 yc1 cl1 T1 => by
              rw [← ec]
              exact fun P h => h md bk an tp mn oP tk ic ni nu sc rs nh hd pa he wk ar ch' row K fe' cl1 a_op a_number a_tokens a_used a_timed a_inCoin a_inA a_inB a_ins a_amount a_script a_outs a_parent a_height a_work a_holds a_held a_rewardScript a_delivered st' fi' rw' rg' wr' cn' ra fs tr ag bf aa b_parent b_work ba yc1 fr1 w1 wi1 sp1 ys1 ya yo N D S B ⟨Z'.1, Z'.2.1, Z'.2.2.1, Z'.2.2.2.1, Z'.2.2.2.2.1, Z'.2.2.2.2.2.1, Z'.2.2.2.2.2.2.1, T1⟩
            cases g : (kc_W ic ni nu a_amount (kf_fit oP a_number tk ic a_inA a_inB sc rs) nh hd pa he b).isSome with
            | false =>
              refine br_t rfl ?_
              exact YG _ (fun q => absurd q z) (fun _ q => absurd q y) (fun _ _ _ f1 f2 f3 f4 f5 f6 f7 T1 => ⟨rfl, Rh f1 f2 f3 f4 f5 f6 f7 T1⟩) (fun _ _ q => by rw [g] at q; exact nomatch q)
            | true =>
              refine br_f kn_10 ?_
              exact YG _ (fun q => absurd q z) (fun _ q => absurd q y) (fun _ _ q => by rw [g] at q; exact nomatch q) (fun _ _ _ w' ys' yc' => ⟨fun q => absurd q nac, fun _ => ⟨rfl, Rh _ _ _ _ _ _ _ TK⟩⟩)
      · refine br_f (by decide) (br_t rfl (And.intro in32 ?_))
        exact Yin _ (br_t rfl (And.intro (pk_in b 33 (by omega)) ⟨rfl, R0⟩))
      · refine br_f (by decide) (br_f (by decide) (br_t rfl (And.intro in32 ?_)))
        rw [kn_at r3 b]
        exact Yin _ (br_f (by decide) (br_t rfl (yy_workOf N DY r4 hb ⟨rfl, R0⟩)))
      · -- its reward
        refine br_f (by decide) (br_f (by decide) (br_f (by decide) (br_t rfl (And.intro in32 ?_))))
        rw [ecl, kn_e r5 b]
        have lt0 : (ba b < 0 ↔ ar b = 0) := by
          rw [show ba b = nI (ar b) - 1 from arr, kn_am1 (by omega)]
        have e120 : 120 + nI b = nI (120 + b) := nI_add 120 b
        have YG : ∀ (post : Int32 → SY → Prop),
            ((kc_W ic ni nu a_amount (kf_fit oP a_number tk ic a_inA a_inB sc rs) nh hd pa he b = none ∨ ar b = 0) → ∀ (fr1 sp1 wi1 w1 ys1 yc1 : Nat → Int32) (cl1 : Int32), ky_T fr1 sp1 wi1 → post 0 (nI md, nI bk, nI an, nI (ch tp), nI mn, cl1, a_op, a_number, a_tokens, a_ins, a_inCoin, a_inA, a_inB, a_outs, a_amount, a_script, b_parent, b_work, a_rewardScript, a_height, a_holds, a_held, a_delivered, ba, ra, yc1, fr1, w1, wi1, sp1, ys1, ya, yo)) →
            (∀ Kb, kc_W ic ni nu a_amount (kf_fit oP a_number tk ic a_inA a_inB sc rs) nh hd pa he b = some Kb → ar b ≠ 0 → ∀ (fr1 sp1 wi1 w1 ys1 yc1 : Nat → Int32) (cl1 : Int32), ky_T fr1 sp1 wi1 → post (Kb.2.2.2 (120 + b)) (nI md, nI bk, nI an, nI (ch tp), nI mn, cl1, a_op, a_number, a_tokens, a_ins, a_inCoin, a_inA, a_inB, a_outs, a_amount, a_script, b_parent, b_work, a_rewardScript, a_height, a_holds, a_held, a_delivered, ba, ra, yc1, fr1, w1, wi1, sp1, ys1, ya, yo)) →
            wpY_block post (nI md, nI bk, nI an, nI (ch tp), nI mn, cl, a_op, a_number, a_tokens, a_ins, a_inCoin, a_inA, a_inB, a_outs, a_amount, a_script, b_parent, b_work, a_rewardScript, a_height, a_holds, a_held, a_delivered, ba, ra, yc, fr, w, wi, sp, ys, ya, yo) (nI b) (nI 3) := by
          intro post k0 k1
          cases g : kc_W ic ni nu a_amount (kf_fit oP a_number tk ic a_inA a_inB sc rs) nh hd pa he b with
          | none =>
            obtain ⟨cl', cn', fr', sp', wi', w', st', T', Rn⟩ := Y0 g
            exact Yin post (br_f (by decide) (br_f (by decide) (Rn _ (br_t rfl (br_t rfl (k0 (Or.inl g) _ _ _ _ _ _ _ T'))))))
          | some Kb =>
            obtain ⟨w', st', c, C, ce, A, Rn⟩ := Y1 Kb g
            have T' := ky_TI (kc_W_I' (kd_D N) (kd_T N) hb g)
            refine Yin post (br_f (by decide) (br_f (by decide) (Rn _ (br_t rfl (br_f kn_10 (And.intro in32 ?_))))))
            rw [ecl]
            refine br_c (fun y => k0 (Or.inr (lt0.mp y)) _ _ _ _ _ _ _ T') (fun y => And.intro (pk_in (120 + b) 152 (by omega) e120) ?_)
            have own := kc_W_own (kd_T N) hb g
            rw [e120, nI_clamp (show 120 + b < 2 ^ 31 by omega), A (120 + b) (by omega) (by rw [own]; exact nI_pos (by omega))]
            exact k1 Kb g (fun q => y (lt0.mpr q)) _ _ _ _ _ _ _ T'
        have Rg : ∀ (fr1 sp1 wi1 w1 ys1 yc1 : Nat → Int32) (cl1 : Int32), ky_T fr1 sp1 wi1 → i_Rel (k + 4) (nI md, nI bk, nI an, nI tp, nI mn, 0, fe, a_op, a_number, a_tokens, a_used, a_timed, st, a_inCoin, a_inA, a_inB, a_ins, a_amount, a_script, a_outs, fi, a_parent, a_height, a_work, a_holds, a_held, a_rewardScript, rw, a_delivered, aa, rg, wr, cn, K.1, K.2.1, K.2.2.1, ra, fs, tr, ag, bf) (nI md, nI bk, nI an, nI (ch tp), nI mn, cl1, a_op, a_number, a_tokens, a_ins, a_inCoin, a_inA, a_inB, a_outs, a_amount, a_script, b_parent, b_work, a_rewardScript, a_height, a_holds, a_held, a_delivered, ba, ra, yc1, fr1, w1, wi1, sp1, ys1, ya, yo) := fun fr1 sp1 wi1 w1 ys1 yc1 cl1 T1 => fun P h => h md bk an tp mn oP tk ic ni nu sc rs nh hd pa he wk ar ch row K fe cl1 a_op a_number a_tokens a_used a_timed a_inCoin a_inA a_inB a_ins a_amount a_script a_outs a_parent a_height a_work a_holds a_held a_rewardScript a_delivered st fi rw rg wr cn ra fs tr ag bf aa b_parent b_work ba yc1 fr1 w1 wi1 sp1 ys1 ya yo N D S B ⟨Z.1, Z.2.1, Z.2.2.1, Z.2.2.2.1, Z.2.2.2.2.1, Z.2.2.2.2.2.1, Z.2.2.2.2.2.2.1, T1⟩
        refine pk_le (ar b) 0 (fun y => ?_) (fun y => ?_)
        · exact YG _ (fun _ f1 f2 f3 f4 f5 f6 f7 T1 => ⟨rfl, Rg f1 f2 f3 f4 f5 f6 f7 T1⟩) (fun _ _ q => by omega)
        · obtain ⟨ch', fe', st', fi', rw', rg', wr', cn', ec, Z', rv, VX⟩ := zz_valid (a_used := a_used) (a_delivered := a_delivered) (a_work := a_work) (an := an) (aa := aa) (ag := ag) (bf := bf) (fe := fe) (st := st) hb N D Z
          refine VX _ ?_
          have Rh : ∀ (fr1 sp1 wi1 w1 ys1 yc1 : Nat → Int32) (cl1 : Int32), ky_T fr1 sp1 wi1 → i_Rel (k + 4) (nI md, nI bk, nI an, nI tp, nI mn, 0, fe', a_op, a_number, a_tokens, a_used, a_timed, st', a_inCoin, a_inA, a_inB, a_ins, a_amount, a_script, a_outs, fi', a_parent, a_height, a_work, a_holds, a_held, a_rewardScript, rw', a_delivered, aa, rg', wr', cn', K.1, K.2.1, K.2.2.1, ra, fs, tr, ag, bf) (nI md, nI bk, nI an, nI (ch tp), nI mn, cl1, a_op, a_number, a_tokens, a_ins, a_inCoin, a_inA, a_inB, a_outs, a_amount, a_script, b_parent, b_work, a_rewardScript, a_height, a_holds, a_held, a_delivered, ba, ra, yc1, fr1, w1, wi1, sp1, ys1, ya, yo) := fun fr1 sp1 wi1 w1 ys1 yc1 cl1 T1 => by
            rw [← ec]
            exact fun P h => h md bk an tp mn oP tk ic ni nu sc rs nh hd pa he wk ar ch' row K fe' cl1 a_op a_number a_tokens a_used a_timed a_inCoin a_inA a_inB a_ins a_amount a_script a_outs a_parent a_height a_work a_holds a_held a_rewardScript a_delivered st' fi' rw' rg' wr' cn' ra fs tr ag bf aa b_parent b_work ba yc1 fr1 w1 wi1 sp1 ys1 ya yo N D S B ⟨Z'.1, Z'.2.1, Z'.2.2.1, Z'.2.2.2.1, Z'.2.2.2.2.1, Z'.2.2.2.2.2.1, Z'.2.2.2.2.2.2.1, T1⟩
          cases g : kc_W ic ni nu a_amount (kf_fit oP a_number tk ic a_inA a_inB sc rs) nh hd pa he b with
          | none =>
            refine br_t rfl ?_
            exact YG _ (fun _ f1 f2 f3 f4 f5 f6 f7 T1 => ⟨rfl, Rh f1 f2 f3 f4 f5 f6 f7 T1⟩) (fun Kb q => by rw [g] at q; exact nomatch q)
          | some Kb =>
            refine br_f kn_10 (And.intro in32 ?_)
            rw [rv Kb g]
            exact YG _ (fun q => (q.elim (fun q => by rw [g] at q; exact nomatch q) (fun q => by omega))) (fun Kb' q _ f1 f2 f3 f4 f5 f6 f7 T1 => ⟨by rw [g] at q; rw [Option.some.inj q], Rh f1 f2 f3 f4 f5 f6 f7 T1⟩)
end
section
/-! ===== token ===== -/
section
variable {md bk an tp mn : Nat} {oP tk ic ni nu sc rs nh hd pa he wk ar ch row : Nat → Nat} {K : kc_K} {fe cl : Int32} {a_op a_number a_tokens a_used a_timed a_inCoin a_inA a_inB a_ins a_amount a_script a_outs a_parent a_height a_work a_holds a_held a_rewardScript a_delivered st fi rw rg wr cn ra fs tr ag bf aa b_parent b_work ba yc fr w wi sp ys ya yo : Nat → Int32}
def zs_U (md bk : Nat) (nu sc rs : Nat → Nat) (s : Nat) : Prop := (∃ b, b < bk ∧ rs b = s) ∨ ∃ t, t < md ∧ ∃ o, 3 * t ≤ o ∧ o < 3 * t + nu t ∧ sc o = s
/-- the scripts of coins that are spent are used -/
theorem zs_used (S : zr_S md bk oP tk ic ni nu sc rs nh hd a_used a_timed a_amount a_delivered) {t i : Nat} (ht : t < md) (h1 : 3 * t ≤ i) (h2 : i < 3 * t + ni t) : zs_U md bk nu sc rs (kx_s sc rs (ic i)) := by
  obtain ⟨s1, s2, s3, s4, s5, s6, s7, s8, s9⟩ := S
  obtain ⟨a, b⟩ := s5 t (Or.inl ht) i h1 h2
  unfold kx_s
  by_cases z : ic i < 120
  · rw [if_pos z]
    obtain ⟨a1, a2⟩ := a z
    exact Or.inr ⟨ic i / 3, a1, ic i, by omega, by omega, rfl⟩
  · rw [if_neg z]
    exact Or.inl ⟨ic i - 120, b (by omega), rfl⟩
theorem zs_lt (S : zr_S md bk oP tk ic ni nu sc rs nh hd a_used a_timed a_amount a_delivered) {t i : Nat} (ht : t < md) (h1 : 3 * t ≤ i) (h2 : i < 3 * t + ni t) (z : ic i < 120) : ic i < 3 * md := by
  have := ((S.2.2.2.2.1 t (Or.inl ht) i h1 h2).1 z).1
  omega
end
section
variable {g_arrivals g_tip g_pooled g_chainLength : Int32} {b_op b_arg b_length b_ins b_inCoin b_inA b_inB b_outs b_amount b_lock b_parent b_work b_rewardLock b_height b_many b_holds b_delivered b_arrived b_pool b_chain b_from b_worth b_within b_spent b_stack b_again b_chosen : Nat → Int32} {oP tk ic ni nu sc rs nh hd pa he : Nat → Nat} {md bk : Nat}
theorem yy_u42 {post : Int32 → Prop} {J : Int32 → Prop} {s t : Nat} (hs : s < 8) (ht : t < 40) (D : ky_D b_op b_arg b_length b_inCoin b_ins b_outs b_lock b_rewardLock b_many b_holds b_parent b_height oP tk ic ni nu sc rs nh hd pa he) (k1 : (∃ o, 3 * t ≤ o ∧ o < 3 * t + nu t ∧ sc o = s) → post 1) (k0 : ¬ (∃ o, 3 * t ≤ o ∧ o < 3 * t + nu t ∧ sc o = s) → J (nI (t + 1))) :
    ∀ (m i n : Nat), i + m = 3 * t + nu t → 3 * t ≤ i → (∀ o, 3 * t ≤ o → o < i → sc o ≠ s) → m < n → wY_isUsed_42 post J (nI s) (nI t) (nI md) (nI bk) g_arrivals g_tip g_pooled g_chainLength b_op b_arg b_length b_ins b_inCoin b_inA b_inB b_outs b_amount b_lock b_parent b_work b_rewardLock b_height b_many b_holds b_delivered b_arrived b_pool b_chain b_from b_worth b_within b_spent b_stack b_again b_chosen n (nI i) := by
  have d := kn_l (dy_nu D) t
  intro m
  induction m with
  | zero =>
    intro i n e h3 M hn
    obtain ⟨n, rfl⟩ : ∃ n', n = n' + 1 := ⟨n - 1, by omega⟩
    refine And.intro (pk_in t 41 (by omega)) (pk_le (3 * t + nu t) i (fun _ => nm_r (nI_1 t) (k0 (fun q => ?_))) (fun z => by omega) (kn_e3 (dy_nu D) t))
    obtain ⟨o, o1, o2, o3⟩ := q
    exact M o o1 (by omega) o3
  | succ m ih =>
    intro i n e h3 M hn
    obtain ⟨n, rfl⟩ : ∃ n', n = n' + 1 := ⟨n - 1, by omega⟩
    have sl := kn_l (dy_sc D) i
    refine And.intro (pk_in t 41 (by omega)) (pk_le (3 * t + nu t) i (fun z => by omega) (fun z => And.intro (pk_in i 123 (by omega)) ?_) (kn_e3 (dy_nu D) t))
    rw [kn_at (dy_sc D) i]
    refine pk_eq (sc i) s (fun y => k1 ⟨i, h3, z, y⟩) (fun y => nm_r (nI_1 i) (ih (i + 1) n (by omega) (by omega) (fun o h1 h2 => ?_) (by omega)))
    by_cases q : o = i
    · rw [q]; exact y
    · exact M o h1 (by omega)
theorem yy_u30 {post : Int32 → Prop} {s : Nat} (hs : s < 8) (m40 : md ≤ 40) (D : ky_D b_op b_arg b_length b_inCoin b_ins b_outs b_lock b_rewardLock b_many b_holds b_parent b_height oP tk ic ni nu sc rs nh hd pa he) (k1 : (∃ t, t < md ∧ ∃ o, 3 * t ≤ o ∧ o < 3 * t + nu t ∧ sc o = s) → post 1) (k0 : ¬ (∃ t, t < md ∧ ∃ o, 3 * t ≤ o ∧ o < 3 * t + nu t ∧ sc o = s) → post 0) :
    ∀ (m t n : Nat), t + m = md → (∀ t', t' < t → ¬ ∃ o, 3 * t' ≤ o ∧ o < 3 * t' + nu t' ∧ sc o = s) → m < n → wY_isUsed_30 post (nI s) (nI md) (nI bk) g_arrivals g_tip g_pooled g_chainLength b_op b_arg b_length b_ins b_inCoin b_inA b_inB b_outs b_amount b_lock b_parent b_work b_rewardLock b_height b_many b_holds b_delivered b_arrived b_pool b_chain b_from b_worth b_within b_spent b_stack b_again b_chosen n (nI t) := by
  intro m
  induction m with
  | zero =>
    intro t n e M hn
    obtain ⟨n, rfl⟩ : ∃ n', n = n' + 1 := ⟨n - 1, by omega⟩
    refine pk_le md t (fun _ => k0 (fun q => ?_)) (fun z => by omega)
    obtain ⟨t', a, b⟩ := q
    exact M t' (by omega) b
  | succ m ih =>
    intro t n e M hn
    obtain ⟨n, rfl⟩ : ∃ n', n = n' + 1 := ⟨n - 1, by omega⟩
    refine pk_le md t (fun z => by omega) (fun _ => nm_r (kn_m3 t) ⟨nu t + 1, ?_⟩)
    refine yy_u42 hs (by omega) D (fun q => k1 ⟨t, by omega, q⟩) (fun q => ih (t + 1) n (by omega) (fun t' ht' => ?_) (by omega)) (nu t) (3 * t) _ rfl (Nat.le_refl _) (fun o h1 h2 => by omega) (by omega)
    by_cases y : t' = t
    · rw [y]; exact q
    · exact M t' (by omega)
theorem yy_u2 {post : Int32 → Prop} {s : Nat} (hs : s < 8) (m40 : md ≤ 40) (b32 : bk ≤ 32) (D : ky_D b_op b_arg b_length b_inCoin b_ins b_outs b_lock b_rewardLock b_many b_holds b_parent b_height oP tk ic ni nu sc rs nh hd pa he) (k1 : zs_U md bk nu sc rs s → post 1) (k0 : ¬ zs_U md bk nu sc rs s → post 0) :
    ∀ (m b n : Nat), b + m = bk → (∀ b', b' < b → rs b' ≠ s) → m < n → wY_isUsed_2 post (nI s) (nI md) (nI bk) g_arrivals g_tip g_pooled g_chainLength b_op b_arg b_length b_ins b_inCoin b_inA b_inB b_outs b_amount b_lock b_parent b_work b_rewardLock b_height b_many b_holds b_delivered b_arrived b_pool b_chain b_from b_worth b_within b_spent b_stack b_again b_chosen n (nI b) := by
  intro m
  induction m with
  | zero =>
    intro b n e M hn
    obtain ⟨n, rfl⟩ : ∃ n', n = n' + 1 := ⟨n - 1, by omega⟩
    refine pk_le bk b (fun _ => ⟨md + 1, yy_u30 hs m40 D (fun q => k1 (Or.inr q)) (fun q => k0 (fun y => ?_)) md 0 _ (by omega) (fun t' h => by omega) (by omega)⟩) (fun z => by omega)
    rcases y with ⟨b', y1, y2⟩ | y
    · exact M b' (by omega) y2
    · exact q y
  | succ m ih =>
    intro b n e M hn
    obtain ⟨n, rfl⟩ : ∃ n', n = n' + 1 := ⟨n - 1, by omega⟩
    have rl := kn_l (dy_rs D) b
    refine pk_le bk b (fun z => by omega) (fun z => And.intro (pk_in b 33 (by omega)) ?_)
    rw [kn_at (dy_rs D) b]
    refine pk_eq (rs b) s (fun y => k1 (Or.inl ⟨b, z, y⟩)) (fun y => nm_r (nI_1 b) (ih (b + 1) n (by omega) (fun b' h => ?_) (by omega)))
    by_cases q : b' = b
    · rw [q]; exact y
    · exact M b' (by omega)
theorem yy_isUsed {post : Int32 → Prop} {s : Nat} (hs : s < 8) (m40 : md ≤ 40) (b32 : bk ≤ 32) (D : ky_D b_op b_arg b_length b_inCoin b_ins b_outs b_lock b_rewardLock b_many b_holds b_parent b_height oP tk ic ni nu sc rs nh hd pa he) (k1 : zs_U md bk nu sc rs s → post 1) (k0 : ¬ zs_U md bk nu sc rs s → post 0) : wpY_isUsed post (nI md, nI bk, g_arrivals, g_tip, g_pooled, g_chainLength, b_op, b_arg, b_length, b_ins, b_inCoin, b_inA, b_inB, b_outs, b_amount, b_lock, b_parent, b_work, b_rewardLock, b_height, b_many, b_holds, b_delivered, b_arrived, b_pool, b_chain, b_from, b_worth, b_within, b_spent, b_stack, b_again, b_chosen) (nI s) :=
  ⟨bk + 1, yy_u2 hs m40 b32 D k1 k0 bk 0 _ (by omega) (fun b' h => by omega) (by omega)⟩
end
theorem zs_or {x : Int32} (h : x = 0 ∨ x = 1) (o : Nat) : vp_nar .boolean (x ||| 1) = 1 ∧ vp_nar .boolean (x ||| 0) = x := by
  rcases h with h | h <;> subst h <;> exact ⟨by decide, by decide⟩
section
variable {md bk an tp mn : Nat} {oP tk ic ni nu sc rs nh hd pa he wk ar ch row : Nat → Nat} {K : kc_K} {fe cl : Int32} {a_op a_number a_tokens a_used a_timed a_inCoin a_inA a_inB a_ins a_amount a_script a_outs a_parent a_height a_work a_holds a_held a_rewardScript a_delivered st fi rw rg wr cn ra fs tr ag bf aa b_parent b_work ba yc fr w wi sp ys ya yo : Nat → Int32}
/-- the data with one more token -/
theorem zz_tok {s o : Nat} {v : Int32} {tm' : Nat → Int32} (hs : s < 8) (ho : o < 13) (hv : o = 12 → ∃ w, w < 9 ∧ v = nI w) (ht8 : tk s < 8) (nu' : ¬ zs_U md bk nu sc rs s) (etm : tm' = upd a_timed s (if o = 10 ∨ o = 11 then 1 else a_timed s)) (N : kd_N oP tk ic ni nu sc rs nh hd pa he md bk) (D : kx_D a_op a_number a_tokens a_timed a_inCoin a_ins a_outs a_script a_rewardScript a_holds a_held a_parent a_height oP tk ic ni nu sc rs nh hd pa he) (S : zr_S md bk oP tk ic ni nu sc rs nh hd a_used a_timed a_amount a_delivered) (Z : zr_D (kc_W ic ni nu a_amount (kf_fit oP a_number tk ic a_inA a_inB sc rs) nh hd pa he) (kf_C md ni a_timed (fun i => kx_s sc rs (ic i)) (kf_fit oP a_number tk ic a_inA a_inB sc rs)) bk md pa he ic ni nu a_amount tp mn ch row K fi rw rg wr cn ra fs tr fr wi sp) :
    kd_N (kn_u oP (8 * s + tk s) o) (kn_u tk s (tk s + 1)) ic ni nu sc rs nh hd pa he md bk ∧
    kx_D (upd a_op (8 * s + tk s) (nI o)) (upd a_number (8 * s + tk s) v) (upd a_tokens s (nI (tk s + 1))) tm' a_inCoin a_ins a_outs a_script a_rewardScript a_holds a_held a_parent a_height (kn_u oP (8 * s + tk s) o) (kn_u tk s (tk s + 1)) ic ni nu sc rs nh hd pa he ∧
    zr_S md bk (kn_u oP (8 * s + tk s) o) (kn_u tk s (tk s + 1)) ic ni nu sc rs nh hd a_used tm' a_amount a_delivered ∧
    zr_D (kc_W ic ni nu a_amount (kf_fit (kn_u oP (8 * s + tk s) o) (upd a_number (8 * s + tk s) v) (kn_u tk s (tk s + 1)) ic a_inA a_inB sc rs) nh hd pa he) (kf_C md ni tm' (fun i => kx_s sc rs (ic i)) (kf_fit (kn_u oP (8 * s + tk s) o) (upd a_number (8 * s + tk s) v) (kn_u tk s (tk s + 1)) ic a_inA a_inB sc rs)) bk md pa he ic ni nu a_amount tp mn ch row K fi rw rg wr cn ra fs tr fr wi sp := by
  subst etm
  have far : ∀ s' k, s' ≠ s → 8 * s' ≤ k → k < 8 * s' + tk s' → k ≠ 8 * s + tk s := fun s' k h h1 h2 => by have := kn_l (dx_tk D) s'; omega
  refine ⟨?_, ?_, ?_, ?_⟩
  · obtain ⟨n1, n2, n3⟩ := N
    refine ⟨fun k => ?_, fun k => ?_, n3⟩
    · by_cases q : k = 8 * s + tk s
      · rw [q, kn_us]; exact ho
      · rw [kn_un q]; exact n1 k
    · by_cases q : k = s
      · rw [q, kn_us]; omega
      · rw [kn_un q]; exact n2 k
  · obtain ⟨x1, x2, x3, x4, x5⟩ := D
    refine ⟨kn_upd x1 rfl ho, fun k hk => ?_, kn_upd x3 rfl (by omega), fun s' hs' hz k h1 h2 => ?_, x5⟩
    · by_cases q : k = 8 * s + tk s
      · rw [q, kn_us] at hk
        rw [q, pk_us]; exact hv hk
      · rw [kn_un q] at hk
        rw [pk_un q]; exact x2 k hk
    · by_cases q : s' = s
      · subst q
        rw [pk_us] at hz
        rw [kn_us] at h2
        have no : ¬ (o = 10 ∨ o = 11) := fun y => by rw [if_pos y] at hz; exact absurd hz (by decide)
        rw [if_neg no] at hz
        by_cases q2 : k = 8 * s' + tk s'
        · rw [q2, kn_us]; omega
        · rw [kn_un q2]; exact x4 s' hs' hz k h1 (by omega)
      · rw [pk_un q] at hz
        rw [kn_un q] at h2
        rw [kn_un (far s' k q h1 h2)]
        exact x4 s' hs' hz k h1 h2
  · obtain ⟨s1, s2, s3⟩ := S
    refine ⟨s1, kn_Bu s2 ?_, s3⟩
    split
    · exact Or.inr rfl
    · exact s2 s
  · have ne : ∀ t, t < md → ∀ i, 3 * t ≤ i → i < 3 * t + ni t → kx_s sc rs (ic i) ≠ s := fun t ht i h1 h2 q => by
      have := zs_used S ht h1 h2
      rw [q] at this; exact nu' this
    refine zr_D_ext N (Nat.le_refl _) (Nat.le_refl _) (fun t ht => ⟨rfl, rfl, fun i h1 h2 => ⟨rfl, fun g h => ?_⟩, fun _ _ _ => rfl⟩) (fun b hb => ⟨rfl, rfl, rfl, fun _ _ => rfl⟩) (fun _ _ => rfl) (fun t ht i h1 h2 => ⟨?_, fun z => zs_lt S ht h1 h2 z⟩) Z
    · have n1 := ne t ht i h1 h2
      refine (kf_go_cg (kn_un n1).symm (fun k k1 k2 => ?_)).symm
      have f := far _ k n1 k1 k2
      rw [kn_un f, pk_un f]
      exact ⟨rfl, rfl, fun _ => ⟨rfl, rfl⟩⟩
    · exact pk_un (ne t ht i h1 h2)
end
theorem i_vc_token {k : Nat} {u : SX} {v : SY} (I : i_Rel k u v) (hk : k + 4 ≤ 2048) (v1 : Int32) (v2 : Int32) (v3 : Int32) : wpX_token (fun r u' => wpY_token (fun r' v' => r' = r ∧ i_Rel (k + 4) u' v') v v1 v2 v3) u v1 v2 v3 := by
  refine I (fun u v => wpX_token (fun r u' => wpY_token (fun r' v' => r' = r ∧ i_Rel (k + 4) u' v') v v1 v2 v3) u v1 v2 v3) ?_
  clear I u v
  intro md bk an tp mn oP tk ic ni nu sc rs nh hd pa he wk ar ch row K fe cl a_op a_number a_tokens a_used a_timed a_inCoin a_inA a_inB a_ins a_amount a_script a_outs a_parent a_height a_work a_holds a_held a_rewardScript a_delivered st fi rw rg wr cn ra fs tr ag bf aa b_parent b_work ba yc fr w wi sp ys ya yo N D S B Z
  have b32 := kd_bk N
  have m40 := kd_md N
  have R0 : i_Rel (k + 4) (nI md, nI bk, nI an, nI tp, nI mn, 0, fe, a_op, a_number, a_tokens, a_used, a_timed, st, a_inCoin, a_inA, a_inB, a_ins, a_amount, a_script, a_outs, fi, a_parent, a_height, a_work, a_holds, a_held, a_rewardScript, rw, a_delivered, aa, rg, wr, cn, K.1, K.2.1, K.2.2.1, ra, fs, tr, ag, bf) (nI md, nI bk, nI an, nI (ch tp), nI mn, cl, a_op, a_number, a_tokens, a_ins, a_inCoin, a_inA, a_inB, a_outs, a_amount, a_script, b_parent, b_work, a_rewardScript, a_height, a_holds, a_held, a_delivered, ba, ra, yc, fr, w, wi, sp, ys, ya, yo) := fun P h => h md bk an tp mn oP tk ic ni nu sc rs nh hd pa he wk ar ch row K fe cl a_op a_number a_tokens a_used a_timed a_inCoin a_inA a_inB a_ins a_amount a_script a_outs a_parent a_height a_work a_holds a_held a_rewardScript a_delivered st fi rw rg wr cn ra fs tr ag bf aa b_parent b_work ba yc fr w wi sp ys ya yo N D S B Z
  -- the three checks
  have bad : (v1 < 0 ∨ (8 : Int32) ≤ v1) ∨ ((∃ s, s < 8 ∧ v1 = nI s) ∧ (v2 < 0 ∨ (13 : Int32) ≤ v2)) ∨ ((∃ s, s < 8 ∧ v1 = nI s) ∧ (∃ o, o < 13 ∧ v2 = nI o) ∧ v2 = 12 ∧ (v3 < 0 ∨ (9 : Int32) ≤ v3)) → wpX_token (fun r u' => wpY_token (fun r' v' => r' = r ∧ i_Rel (k + 4) u' v') (nI md, nI bk, nI an, nI (ch tp), nI mn, cl, a_op, a_number, a_tokens, a_ins, a_inCoin, a_inA, a_inB, a_outs, a_amount, a_script, b_parent, b_work, a_rewardScript, a_height, a_holds, a_held, a_delivered, ba, ra, yc, fr, w, wi, sp, ys, ya, yo) v1 v2 v3) (nI md, nI bk, nI an, nI tp, nI mn, 0, fe, a_op, a_number, a_tokens, a_used, a_timed, st, a_inCoin, a_inA, a_inB, a_ins, a_amount, a_script, a_outs, fi, a_parent, a_height, a_work, a_holds, a_held, a_rewardScript, rw, a_delivered, aa, rg, wr, cn, K.1, K.2.1, K.2.2.1, ra, fs, tr, ag, bf) v1 v2 v3 := by
    intro q
    unfold wpX_token
    rcases q with q | ⟨⟨s, hs, rfl⟩, q⟩ | ⟨⟨s, hs, rfl⟩, ⟨o, ho, rfl⟩, e, q⟩
    · refine xx_no0 q ?_
      refine br_f kn_10 ?_
      unfold wpY_token
      refine yy_in0 q ?_
      exact br_t rfl ⟨rfl, R0⟩
    · refine xx_no1 (n := 8) hs (by omega) ?_
      refine br_t rfl ?_
      refine xx_no0 q ?_
      refine br_f kn_10 ?_
      unfold wpY_token
      refine yy_in1 (n := 8) hs (by omega) ?_
      refine br_f kn_10 ?_
      refine yy_in0 q ?_
      exact br_t rfl ⟨rfl, R0⟩
    · refine xx_no1 (n := 8) hs (by omega) ?_
      refine br_t rfl ?_
      refine xx_no1 (n := 13) ho (by omega) ?_
      refine br_t rfl (br_t e ?_)
      refine xx_no0 q ?_
      refine br_f kn_10 ?_
      unfold wpY_token
      refine yy_in1 (n := 8) hs (by omega) ?_
      refine br_f kn_10 ?_
      refine yy_in1 (n := 13) ho (by omega) ?_
      refine br_f kn_10 (br_t e ?_)
      refine yy_in0 q ?_
      exact br_t rfl ⟨rfl, R0⟩
  rcases pk_ix v1 (n := 8) (by omega) with q | q | ⟨s, hs, e1⟩
  · exact bad (Or.inl (Or.inl q))
  · exact bad (Or.inl (Or.inr q))
  rcases pk_ix v2 (n := 13) (by omega) with q | q | ⟨o, ho, e2⟩
  · exact bad (Or.inr (Or.inl ⟨⟨s, hs, e1⟩, Or.inl q⟩))
  · exact bad (Or.inr (Or.inl ⟨⟨s, hs, e1⟩, Or.inr q⟩))
  have c3 : o = 12 → (v3 < 0 ∨ (9 : Int32) ≤ v3) ∨ ∃ w, w < 9 ∧ v3 = nI w := fun _ => by
    rcases pk_ix v3 (n := 9) (by omega) with q | q | q
    · exact Or.inl (Or.inl q)
    · exact Or.inl (Or.inr q)
    · exact Or.inr q
  by_cases b3 : o = 12 ∧ (v3 < 0 ∨ (9 : Int32) ≤ v3)
  · exact bad (Or.inr (Or.inr ⟨⟨s, hs, e1⟩, ⟨o, ho, e2⟩, by rw [e2, b3.1]; rfl, b3.2⟩))
  subst e1 e2
  have hv : o = 12 → ∃ w, w < 9 ∧ v3 = nI w := fun z => (c3 z).resolve_left (fun q => b3 ⟨z, q⟩)
  have ecl : (nI s).toNatClampNeg = s := nI_clamp (by omega)
  -- past the checks
  have toX : ∀ post : Int32 → SX → Prop, wX_token_33 post (nI s) (nI o) v3 (nI md) (nI bk) (nI an) (nI tp) (nI mn) 0 fe a_op a_number a_tokens a_used a_timed st a_inCoin a_inA a_inB a_ins a_amount a_script a_outs fi a_parent a_height a_work a_holds a_held a_rewardScript rw a_delivered aa rg wr cn K.1 K.2.1 K.2.2.1 ra fs tr ag bf → wpX_token post (nI md, nI bk, nI an, nI tp, nI mn, 0, fe, a_op, a_number, a_tokens, a_used, a_timed, st, a_inCoin, a_inA, a_inB, a_ins, a_amount, a_script, a_outs, fi, a_parent, a_height, a_work, a_holds, a_held, a_rewardScript, rw, a_delivered, aa, rg, wr, cn, K.1, K.2.1, K.2.2.1, ra, fs, tr, ag, bf) (nI s) (nI o) v3 := by
    intro post W
    unfold wpX_token
    refine xx_no1 (n := 8) hs (by omega) ?_
    refine br_t rfl ?_
    refine xx_no1 (n := 13) ho (by omega) ?_
    refine br_t rfl (pk_eq o 12 (fun z => ?_) (fun _ => W))
    obtain ⟨w', hw, rfl⟩ := hv z
    refine xx_no1 (n := 9) hw (by omega) ?_
    exact br_t rfl W
  have toY : ∀ post : Int32 → SY → Prop, wY_token_33 post (nI s) (nI o) v3 (nI md) (nI bk) (nI an) (nI (ch tp)) (nI mn) cl a_op a_number a_tokens a_ins a_inCoin a_inA a_inB a_outs a_amount a_script b_parent b_work a_rewardScript a_height a_holds a_held a_delivered ba ra yc fr w wi sp ys ya yo → wpY_token post (nI md, nI bk, nI an, nI (ch tp), nI mn, cl, a_op, a_number, a_tokens, a_ins, a_inCoin, a_inA, a_inB, a_outs, a_amount, a_script, b_parent, b_work, a_rewardScript, a_height, a_holds, a_held, a_delivered, ba, ra, yc, fr, w, wi, sp, ys, ya, yo) (nI s) (nI o) v3 := by
    intro post W
    unfold wpY_token
    refine yy_in1 (n := 8) hs (by omega) ?_
    refine br_f kn_10 ?_
    refine yy_in1 (n := 13) ho (by omega) ?_
    refine br_f kn_10 (pk_eq o 12 (fun z => ?_) (fun _ => W))
    obtain ⟨w', hw, rfl⟩ := hv z
    refine yy_in1 (n := 9) hw (by omega) ?_
    exact br_f kn_10 W
  have DY := dx_dy D B.1 B.2.1
  have in8 : vp_in (nI s) 8 := pk_in s 8 hs
  have us := S.2.2.2.1 s hs
  have tks := kn_l (dx_tk D) s
  have etk : a_tokens s = nI (tk s) := kn_e (dx_tk D) s
  refine toX _ ?_
  unfold wX_token_33
  refine And.intro in8 ?_
  rw [ecl]
  refine br_c (fun z => And.intro in8 ?_) (fun z => toY _ ?_)
  · have nus : ¬ zs_U md bk nu sc rs s := fun q => us.mpr q z
    rw [etk]
    refine pk_eq (tk s) 8 (fun y => toY _ ?_) (fun y => ?_)
    · unfold wY_token_33
      refine yy_isUsed hs m40 b32 DY (fun q => absurd q nus) (fun _ => br_t rfl (And.intro in8 ?_))
      rw [ecl, etk]
      exact pk_eq (tk s) 8 (fun _ => ⟨rfl, R0⟩) (fun q => absurd y q)
    · have e4 : 8 * nI s + nI (tk s) = nI (8 * s + tk s) := by rw [kn_m8, nI_add]
      have i64 : vp_in (nI (8 * s + tk s)) 64 := pk_in (8 * s + tk s) 64 (by omega)
      have up : upd a_tokens s (nI (tk s + 1)) s = nI (tk s + 1) := pk_us
      have fin : ∀ tm', tm' = upd a_timed s (if o = 10 ∨ o = 11 then 1 else a_timed s) → wpY_token (fun r' v' => r' = nI (tk s + 1) ∧ i_Rel (k + 4) (nI md, nI bk, nI an, nI tp, nI mn, 0, fe, upd a_op (8 * s + tk s) (nI o), upd a_number (8 * s + tk s) v3, upd a_tokens s (nI (tk s + 1)), a_used, tm', st, a_inCoin, a_inA, a_inB, a_ins, a_amount, a_script, a_outs, fi, a_parent, a_height, a_work, a_holds, a_held, a_rewardScript, rw, a_delivered, aa, rg, wr, cn, K.1, K.2.1, K.2.2.1, ra, fs, tr, ag, bf) v') (nI md, nI bk, nI an, nI (ch tp), nI mn, cl, a_op, a_number, a_tokens, a_ins, a_inCoin, a_inA, a_inB, a_outs, a_amount, a_script, b_parent, b_work, a_rewardScript, a_height, a_holds, a_held, a_delivered, ba, ra, yc, fr, w, wi, sp, ys, ya, yo) (nI s) (nI o) v3 := by
        intro tm' etm
        obtain ⟨N', D', S', Z'⟩ := zz_tok hs ho hv (by omega) nus etm N D S Z
        refine toY _ ?_
        unfold wY_token_33
        refine yy_isUsed hs m40 b32 DY (fun q => absurd q nus) (fun _ => br_t rfl (And.intro in8 ?_))
        rw [ecl, etk]
        refine pk_eq (tk s) 8 (fun q => absurd q y) (fun _ => And.intro in8 (nm_r e4 (And.intro i64 (nm_r (kn_ux (8 * s + tk s)) (And.intro i64 (nm_r (kn_ux (8 * s + tk s)) (And.intro in8 (And.intro in8 (nm_r (e' := upd a_tokens s (nI (tk s + 1))) (by rw [nI_1]) (And.intro in8 ⟨up, ?_⟩))))))))))
        exact fun P h => h md bk an tp mn (kn_u oP (8 * s + tk s) o) (kn_u tk s (tk s + 1)) ic ni nu sc rs nh hd pa he wk ar ch row K fe cl (upd a_op (8 * s + tk s) (nI o)) (upd a_number (8 * s + tk s) v3) (upd a_tokens s (nI (tk s + 1))) a_used tm' a_inCoin a_inA a_inB a_ins a_amount a_script a_outs a_parent a_height a_work a_holds a_held a_rewardScript a_delivered st fi rw rg wr cn ra fs tr ag bf aa b_parent b_work ba yc fr w wi sp ys ya yo N' D' S' B Z'
      refine And.intro in8 (And.intro in8 (nm_r (e' := upd a_tokens s (nI (tk s + 1))) (by rw [kn_vb2 (tk s + 1) (nI_1 _)]) (nm_r e4 (And.intro i64 (nm_r (kn_uv (8 * s + tk s) (kn_vb2 o)) (And.intro i64 (nm_r (kn_ux (8 * s + tk s)) (And.intro in8 ?_))))))))
      have tb := S.2.1 s
      have zo := zs_or tb o
      have w113 : (o = 10 ∨ o = 11) → wX_token_113 (fun r u' => wpY_token (fun r' v' => r' = r ∧ i_Rel (k + 4) u' v') (nI md, nI bk, nI an, nI (ch tp), nI mn, cl, a_op, a_number, a_tokens, a_ins, a_inCoin, a_inA, a_inB, a_outs, a_amount, a_script, b_parent, b_work, a_rewardScript, a_height, a_holds, a_held, a_delivered, ba, ra, yc, fr, w, wi, sp, ys, ya, yo) (nI s) (nI o) v3) (nI s) (a_timed s) (nI s) (nI md) (nI bk) (nI an) (nI tp) (nI mn) 0 fe (upd a_op (8 * s + tk s) (nI o)) (upd a_number (8 * s + tk s) v3) (upd a_tokens s (nI (tk s + 1))) a_used a_timed st a_inCoin a_inA a_inB a_ins a_amount a_script a_outs fi a_parent a_height a_work a_holds a_held a_rewardScript rw a_delivered aa rg wr cn K.1 K.2.1 K.2.2.1 ra fs tr ag bf := by
        intro q
        unfold wX_token_113
        refine And.intro in8 (nm_r (e' := upd a_timed s (if o = 10 ∨ o = 11 then 1 else a_timed s)) (by rw [ecl, zo.1, if_pos q]) (And.intro in8 ?_))
        rw [ecl, up]
        exact fin _ rfl
      refine pk_eq o 10 (fun q => w113 (Or.inl q)) (fun q1 => pk_eq o 11 (fun q => w113 (Or.inr q)) (fun q2 => And.intro in8 (nm_r (e' := upd a_timed s (if o = 10 ∨ o = 11 then 1 else a_timed s)) (by rw [zo.2, if_neg (by omega)]) (And.intro in8 ?_))))
      rw [up]
      exact fin _ rfl
  · unfold wY_token_33
    refine yy_isUsed hs m40 b32 DY (fun _ => br_f kn_10 ⟨rfl, R0⟩) (fun q => absurd (us.mp z) q)
end
section
/-! ===== input, output, put ===== -/
def zs_coin (md bk : Nat) (nu : Nat → Nat) (c : Nat) : Prop := (c < 120 → c / 3 < md ∧ c % 3 < nu (c / 3)) ∧ (120 ≤ c → c - 120 < bk)
theorem kn_r3 {c : Nat} (h : c < 2 ^ 31) : nI c - nI c / 3 * 3 = nI (c % 3) := pk_rem (d := 3) h (by omega) (by omega)
section
variable {f_arrivals f_top f_many f_agains f_feeNow : Int32} {a_op a_number a_tokens a_used a_timed a_stack a_inCoin a_inA a_inB a_ins a_amount a_script a_outs a_fitting a_parent a_height a_work a_holds a_held a_rewardScript a_reward a_delivered a_arrival a_right a_wrong a_chain a_born a_spent a_since a_row a_fees a_taker a_again a_before : Nat → Int32} {oP tk ic ni nu sc rs nh hd pa he : Nat → Nat} {md bk : Nat}
theorem xx_isCoin {post : Int32 → Prop} {c : Nat} (hc : c < 152) (N : kd_N oP tk ic ni nu sc rs nh hd pa he md bk) (D : kx_D a_op a_number a_tokens a_timed a_inCoin a_ins a_outs a_script a_rewardScript a_holds a_held a_parent a_height oP tk ic ni nu sc rs nh hd pa he) (k1 : zs_coin md bk nu c → post 1) (k0 : ¬ zs_coin md bk nu c → post 0) : wpX_isCoin post (nI md, nI bk, f_arrivals, f_top, f_many, f_agains, f_feeNow, a_op, a_number, a_tokens, a_used, a_timed, a_stack, a_inCoin, a_inA, a_inB, a_ins, a_amount, a_script, a_outs, a_fitting, a_parent, a_height, a_work, a_holds, a_held, a_rewardScript, a_reward, a_delivered, a_arrival, a_right, a_wrong, a_chain, a_born, a_spent, a_since, a_row, a_fees, a_taker, a_again, a_before) (nI c) := by
  have m40 := kd_md N
  have b32 := kd_bk N
  unfold wpX_isCoin
  refine xx_no1 (n := 152) hc (by omega) ?_
  refine br_t rfl (pk_le 120 c (fun z => ?_) (fun z => And.intro (by decide) ?_))
  · have e : nI c - 120 = nI (c - 120) := pk_sub (b := 120) z
    exact pk_le bk (c - 120) (fun y => k0 (fun q => by have := q.2 z; omega)) (fun y => k1 ⟨fun q => by omega, fun _ => y⟩) rfl e
  · have nl := kn_l (dx_nu D) (c / 3)
    refine pk_le md (c / 3) (fun y => k0 (fun q => by have := (q.1 z).1; omega)) (fun y => And.intro (by decide) (And.intro (by decide) (And.intro (pk_in (c / 3) 41 (by omega) (kn_d3 (by omega))) ?_))) rfl (kn_d3 (by omega))
    refine pk_le (nu (c / 3)) (c % 3) (fun x => k0 (fun q => by have := (q.1 z).2; omega)) (fun x => k1 ⟨fun _ => ⟨y, x⟩, fun q => by omega⟩) (kn_at (dx_nu D) (c / 3) (kn_d3 (by omega))) (kn_r3 (by omega))
end
section
variable {g_arrivals g_tip g_pooled g_chainLength : Int32} {b_op b_arg b_length b_ins b_inCoin b_inA b_inB b_outs b_amount b_lock b_parent b_work b_rewardLock b_height b_many b_holds b_delivered b_arrived b_pool b_chain b_from b_worth b_within b_spent b_stack b_again b_chosen : Nat → Int32} {oP tk ic ni nu sc rs nh hd pa he : Nat → Nat} {md bk : Nat}
theorem yy_isCoin {post : Int32 → Prop} {c : Nat} (hc : c < 152) (N : kd_N oP tk ic ni nu sc rs nh hd pa he md bk) (D : ky_D b_op b_arg b_length b_inCoin b_ins b_outs b_lock b_rewardLock b_many b_holds b_parent b_height oP tk ic ni nu sc rs nh hd pa he) (k1 : zs_coin md bk nu c → post 1) (k0 : ¬ zs_coin md bk nu c → post 0) : wpY_isCoin post (nI md, nI bk, g_arrivals, g_tip, g_pooled, g_chainLength, b_op, b_arg, b_length, b_ins, b_inCoin, b_inA, b_inB, b_outs, b_amount, b_lock, b_parent, b_work, b_rewardLock, b_height, b_many, b_holds, b_delivered, b_arrived, b_pool, b_chain, b_from, b_worth, b_within, b_spent, b_stack, b_again, b_chosen) (nI c) := by
  have m40 := kd_md N
  have b32 := kd_bk N
  unfold wpY_isCoin
  refine yy_in1 (n := 152) hc (by omega) ?_
  refine br_f kn_10 (pk_le 120 c (fun z => ?_) (fun z => And.intro (by decide) ?_))
  · have e : nI c - 120 = nI (c - 120) := pk_sub (b := 120) z
    exact pk_le bk (c - 120) (fun y => k0 (fun q => by have := q.2 z; omega)) (fun y => k1 ⟨fun q => by omega, fun _ => y⟩) rfl e
  · have nl := kn_l (dy_nu D) (c / 3)
    refine pk_le md (c / 3) (fun y => k0 (fun q => by have := (q.1 z).1; omega)) (fun y => And.intro (by decide) (And.intro (by decide) (And.intro (pk_in (c / 3) 41 (by omega) (kn_d3 (by omega))) ?_))) rfl (kn_d3 (by omega))
    refine pk_le (nu (c / 3)) (c % 3) (fun x => k0 (fun q => by have := (q.1 z).2; omega)) (fun x => k1 ⟨fun _ => ⟨y, x⟩, fun q => by omega⟩) (kn_at (dy_nu D) (c / 3) (kn_d3 (by omega))) (kn_r3 (by omega))
end
section
variable {f_made f_blocks f_arrivals f_top f_many f_agains f_feeNow : Int32} {a_op a_number a_tokens a_used a_timed a_stack a_inCoin a_inA a_inB a_ins a_amount a_script a_outs a_fitting a_parent a_height a_work a_holds a_held a_rewardScript a_reward a_delivered a_arrival a_right a_wrong a_chain a_born a_spent a_since a_row a_fees a_taker a_again a_before : Nat → Int32} {oP tk ic ni nu sc rs nh hd pa he : Nat → Nat} {md bk : Nat}
theorem xx_in14 {post : Int32 → SX → Prop} {c : Nat} {a b : Int32} (hc : c < 152) (D : kx_D a_op a_number a_tokens a_timed a_inCoin a_ins a_outs a_script a_rewardScript a_holds a_held a_parent a_height oP tk ic ni nu sc rs nh hd pa he)
    (k1 : (∃ i, 120 ≤ i ∧ i < 120 + ni 40 ∧ ic i = c) → post (-1) (f_made, f_blocks, f_arrivals, f_top, f_many, f_agains, f_feeNow, a_op, a_number, a_tokens, a_used, a_timed, a_stack, a_inCoin, a_inA, a_inB, a_ins, a_amount, a_script, a_outs, a_fitting, a_parent, a_height, a_work, a_holds, a_held, a_rewardScript, a_reward, a_delivered, a_arrival, a_right, a_wrong, a_chain, a_born, a_spent, a_since, a_row, a_fees, a_taker, a_again, a_before))
    (k3 : ¬ (∃ i, 120 ≤ i ∧ i < 120 + ni 40 ∧ ic i = c) → ni 40 = 3 → post (-5) (f_made, f_blocks, f_arrivals, f_top, f_many, f_agains, f_feeNow, a_op, a_number, a_tokens, a_used, a_timed, a_stack, a_inCoin, a_inA, a_inB, a_ins, a_amount, a_script, a_outs, a_fitting, a_parent, a_height, a_work, a_holds, a_held, a_rewardScript, a_reward, a_delivered, a_arrival, a_right, a_wrong, a_chain, a_born, a_spent, a_since, a_row, a_fees, a_taker, a_again, a_before))
    (k2 : ¬ (∃ i, 120 ≤ i ∧ i < 120 + ni 40 ∧ ic i = c) → ni 40 < 3 → post (nI (ni 40 + 1)) (f_made, f_blocks, f_arrivals, f_top, f_many, f_agains, f_feeNow, a_op, a_number, a_tokens, a_used, a_timed, a_stack, upd a_inCoin (120 + ni 40) (nI c), upd a_inA (120 + ni 40) a, upd a_inB (120 + ni 40) b, upd a_ins 40 (nI (ni 40 + 1)), a_amount, a_script, a_outs, a_fitting, a_parent, a_height, a_work, a_holds, a_held, a_rewardScript, a_reward, a_delivered, a_arrival, a_right, a_wrong, a_chain, a_born, a_spent, a_since, a_row, a_fees, a_taker, a_again, a_before)) :
    ∀ (m i n : Nat), i + m = 120 + ni 40 → 120 ≤ i → (∀ j, 120 ≤ j → j < i → ic j ≠ c) → m < n → wX_input_14 post (nI c) a b f_made f_blocks f_arrivals f_top f_many f_agains f_feeNow a_op a_number a_tokens a_used a_timed a_stack a_inCoin a_inA a_inB a_ins a_amount a_script a_outs a_fitting a_parent a_height a_work a_holds a_held a_rewardScript a_reward a_delivered a_arrival a_right a_wrong a_chain a_born a_spent a_since a_row a_fees a_taker a_again a_before n (nI i) := by
  have d := kn_l (dx_ni D) 40
  have e40 : a_ins 40 = nI (ni 40) := kn_e (dx_ni D) 40
  have e120 : 120 + a_ins 40 = nI (120 + ni 40) := by rw [e40]; exact nI_add 120 _
  intro m
  induction m with
  | zero =>
    intro i n e h1 M hn
    obtain ⟨n, rfl⟩ : ∃ n', n = n' + 1 := ⟨n - 1, by omega⟩
    have nd : ¬ (∃ i, 120 ≤ i ∧ i < 120 + ni 40 ∧ ic i = c) := fun ⟨j, a, b, c⟩ => M j a (by omega) c
    refine pk_le (120 + ni 40) i (fun _ => pk_eq (ni 40) 3 (fun z => k3 nd z) (fun z => ?_) e40) (fun z => by omega) e120
    have i123 : vp_in (nI (120 + ni 40)) 123 := pk_in (120 + ni 40) 123 (by omega)
    refine nm_r (e' := upd a_ins 40 (nI (ni 40 + 1))) (by rw [kn_vb2 (ni 40 + 1) (by rw [e40, nI_1])]) (nm_r e120 (And.intro i123 (nm_r (kn_uv (120 + ni 40) (kn_vs2 c)) (And.intro i123 (nm_r (kn_ux (120 + ni 40)) (And.intro i123 (nm_r (kn_ux (120 + ni 40)) ?_)))))))
    rw [show upd a_ins 40 (nI (ni 40 + 1)) 40 = nI (ni 40 + 1) from pk_us]
    exact k2 nd (by omega)
  | succ m ih =>
    intro i n e h1 M hn
    obtain ⟨n, rfl⟩ : ∃ n', n = n' + 1 := ⟨n - 1, by omega⟩
    have cl := kn_l (dx_ic D) i
    refine pk_le (120 + ni 40) i (fun z => by omega) (fun z => And.intro (pk_in i 123 (by omega)) ?_) e120
    rw [kn_at (dx_ic D) i]
    refine pk_eq (ic i) c (fun y => k1 ⟨i, h1, z, y⟩) (fun y => nm_r (nI_1 i) (ih (i + 1) n (by omega) (by omega) (fun j h2 h3 => ?_) (by omega)))
    by_cases q : j = i
    · rw [q]; exact y
    · exact M j h2 (by omega)
end
section
variable {g_made g_blocks g_arrivals g_tip g_pooled g_chainLength : Int32} {b_op b_arg b_length b_ins b_inCoin b_inA b_inB b_outs b_amount b_lock b_parent b_work b_rewardLock b_height b_many b_holds b_delivered b_arrived b_pool b_chain b_from b_worth b_within b_spent b_stack b_again b_chosen : Nat → Int32} {oP tk ic ni nu sc rs nh hd pa he : Nat → Nat} {md bk : Nat}
theorem yy_in14 {post : Int32 → SY → Prop} {c : Nat} {a b : Int32} (hc : c < 152) (D : ky_D b_op b_arg b_length b_inCoin b_ins b_outs b_lock b_rewardLock b_many b_holds b_parent b_height oP tk ic ni nu sc rs nh hd pa he)
    (k1 : (∃ i, 120 ≤ i ∧ i < 120 + ni 40 ∧ ic i = c) → post (-1) (g_made, g_blocks, g_arrivals, g_tip, g_pooled, g_chainLength, b_op, b_arg, b_length, b_ins, b_inCoin, b_inA, b_inB, b_outs, b_amount, b_lock, b_parent, b_work, b_rewardLock, b_height, b_many, b_holds, b_delivered, b_arrived, b_pool, b_chain, b_from, b_worth, b_within, b_spent, b_stack, b_again, b_chosen))
    (k3 : ¬ (∃ i, 120 ≤ i ∧ i < 120 + ni 40 ∧ ic i = c) → ni 40 = 3 → post (-5) (g_made, g_blocks, g_arrivals, g_tip, g_pooled, g_chainLength, b_op, b_arg, b_length, b_ins, b_inCoin, b_inA, b_inB, b_outs, b_amount, b_lock, b_parent, b_work, b_rewardLock, b_height, b_many, b_holds, b_delivered, b_arrived, b_pool, b_chain, b_from, b_worth, b_within, b_spent, b_stack, b_again, b_chosen))
    (k2 : ¬ (∃ i, 120 ≤ i ∧ i < 120 + ni 40 ∧ ic i = c) → ni 40 < 3 → post (nI (ni 40 + 1)) (g_made, g_blocks, g_arrivals, g_tip, g_pooled, g_chainLength, b_op, b_arg, b_length, upd b_ins 40 (nI (ni 40 + 1)), upd b_inCoin (120 + ni 40) (nI c), upd b_inA (120 + ni 40) a, upd b_inB (120 + ni 40) b, b_outs, b_amount, b_lock, b_parent, b_work, b_rewardLock, b_height, b_many, b_holds, b_delivered, b_arrived, b_pool, b_chain, b_from, b_worth, b_within, b_spent, b_stack, b_again, b_chosen)) :
    ∀ (m i n : Nat), i + m = 120 + ni 40 → 120 ≤ i → (∀ j, 120 ≤ j → j < i → ic j ≠ c) → m < n → wY_input_14 post (nI c) a b g_made g_blocks g_arrivals g_tip g_pooled g_chainLength b_op b_arg b_length b_ins b_inCoin b_inA b_inB b_outs b_amount b_lock b_parent b_work b_rewardLock b_height b_many b_holds b_delivered b_arrived b_pool b_chain b_from b_worth b_within b_spent b_stack b_again b_chosen n (nI i) := by
  have d := kn_l (dy_ni D) 40
  have e40 : b_ins 40 = nI (ni 40) := kn_e (dy_ni D) 40
  have e120 : 120 + b_ins 40 = nI (120 + ni 40) := by rw [e40]; exact nI_add 120 _
  intro m
  induction m with
  | zero =>
    intro i n e h1 M hn
    obtain ⟨n, rfl⟩ : ∃ n', n = n' + 1 := ⟨n - 1, by omega⟩
    have nd : ¬ (∃ i, 120 ≤ i ∧ i < 120 + ni 40 ∧ ic i = c) := fun ⟨j, a, b, c⟩ => M j a (by omega) c
    refine pk_le (120 + ni 40) i (fun _ => pk_eq (ni 40) 3 (fun z => k3 nd z) (fun z => ?_) e40) (fun z => by omega) e120
    have i123 : vp_in (nI (120 + ni 40)) 123 := pk_in (120 + ni 40) 123 (by omega)
    refine nm_r e120 (And.intro i123 (nm_r (kn_ux (120 + ni 40)) (And.intro i123 (nm_r (kn_ux (120 + ni 40)) (And.intro i123 (nm_r (kn_ux (120 + ni 40)) (nm_r (e' := upd b_ins 40 (nI (ni 40 + 1))) (by rw [e40, nI_1]) ?_)))))))
    rw [show upd b_ins 40 (nI (ni 40 + 1)) 40 = nI (ni 40 + 1) from pk_us]
    exact k2 nd (by omega)
  | succ m ih =>
    intro i n e h1 M hn
    obtain ⟨n, rfl⟩ : ∃ n', n = n' + 1 := ⟨n - 1, by omega⟩
    have cl := kn_l (dy_ic D) i
    refine pk_le (120 + ni 40) i (fun z => by omega) (fun z => And.intro (pk_in i 123 (by omega)) ?_) e120
    rw [kn_at (dy_ic D) i]
    refine pk_eq (ic i) c (fun y => k1 ⟨i, h1, z, y⟩) (fun y => nm_r (nI_1 i) (ih (i + 1) n (by omega) (by omega) (fun j h2 h3 => ?_) (by omega)))
    by_cases q : j = i
    · rw [q]; exact y
    · exact M j h2 (by omega)
end
section
variable {md bk an tp mn : Nat} {oP tk ic ni nu sc rs nh hd pa he wk ar ch row : Nat → Nat} {K : kc_K} {fe cl : Int32} {a_op a_number a_tokens a_used a_timed a_inCoin a_inA a_inB a_ins a_amount a_script a_outs a_parent a_height a_work a_holds a_held a_rewardScript a_delivered st fi rw rg wr cn ra fs tr ag bf aa b_parent b_work ba yc fr w wi sp ys ya yo : Nat → Int32}
theorem zz_inp {c : Nat} {a b : Int32} (hc : c < 152) (cc : zs_coin md bk nu c) (n3 : ni 40 < 3) (nd : ¬ (∃ i, 120 ≤ i ∧ i < 120 + ni 40 ∧ ic i = c)) (N : kd_N oP tk ic ni nu sc rs nh hd pa he md bk) (D : kx_D a_op a_number a_tokens a_timed a_inCoin a_ins a_outs a_script a_rewardScript a_holds a_held a_parent a_height oP tk ic ni nu sc rs nh hd pa he) (S : zr_S md bk oP tk ic ni nu sc rs nh hd a_used a_timed a_amount a_delivered) (Z : zr_D (kc_W ic ni nu a_amount (kf_fit oP a_number tk ic a_inA a_inB sc rs) nh hd pa he) (kf_C md ni a_timed (fun i => kx_s sc rs (ic i)) (kf_fit oP a_number tk ic a_inA a_inB sc rs)) bk md pa he ic ni nu a_amount tp mn ch row K fi rw rg wr cn ra fs tr fr wi sp) :
    kd_N oP tk (kn_u ic (120 + ni 40) c) (kn_u ni 40 (ni 40 + 1)) nu sc rs nh hd pa he md bk ∧
    kx_D a_op a_number a_tokens a_timed (upd a_inCoin (120 + ni 40) (nI c)) (upd a_ins 40 (nI (ni 40 + 1))) a_outs a_script a_rewardScript a_holds a_held a_parent a_height oP tk (kn_u ic (120 + ni 40) c) (kn_u ni 40 (ni 40 + 1)) nu sc rs nh hd pa he ∧
    zr_S md bk oP tk (kn_u ic (120 + ni 40) c) (kn_u ni 40 (ni 40 + 1)) nu sc rs nh hd a_used a_timed a_amount a_delivered ∧
    zr_D (kc_W (kn_u ic (120 + ni 40) c) (kn_u ni 40 (ni 40 + 1)) nu a_amount (kf_fit oP a_number tk (kn_u ic (120 + ni 40) c) (upd a_inA (120 + ni 40) a) (upd a_inB (120 + ni 40) b) sc rs) nh hd pa he) (kf_C md (kn_u ni 40 (ni 40 + 1)) a_timed (fun i => kx_s sc rs (kn_u ic (120 + ni 40) c i)) (kf_fit oP a_number tk (kn_u ic (120 + ni 40) c) (upd a_inA (120 + ni 40) a) (upd a_inB (120 + ni 40) b) sc rs)) bk md pa he (kn_u ic (120 + ni 40) c) (kn_u ni 40 (ni 40 + 1)) nu a_amount tp mn ch row K fi rw rg wr cn ra fs tr fr wi sp := by
  have m40 := kd_md N
  have i40 : ∀ t, t < md → ∀ i, i < 3 * t + ni t → i ≠ 120 + ni 40 := fun t ht i h => by have := kn_l (dx_ni D) t; omega
  refine ⟨?_, ?_, ?_, ?_⟩
  · have inj := @kd_inj _ _ _ _ _ _ _ _ _ _ _ _ _ N
    obtain ⟨n1, n2, n3', n4, n5, n6, n7, n8, n9, n10, n11, n12, n13, n14⟩ := N
    refine ⟨n1, n2, fun k => ?_, fun k => ?_, n5, n6, n7, n8, n9, n10, n11, n12, n13, fun t ht i j h1 h2 h3 h4 e => ?_⟩
    · by_cases q : k = 120 + ni 40
      · rw [q, kn_us]; exact hc
      · rw [kn_un q]; exact n3' k
    · by_cases q : k = 40
      · rw [q, kn_us]; omega
      · rw [kn_un q]; exact n4 k
    · rw [kn_un (show t ≠ 40 by omega)] at h2 h4
      rw [kn_un (i40 t ht i h2), kn_un (i40 t ht j h4)] at e
      exact n14 t ht i j h1 h2 h3 h4 e
  · obtain ⟨x1, x2, x3, x4, x5, x6, x7⟩ := D
    exact ⟨x1, x2, x3, x4, kn_upd x5 rfl hc, kn_upd x6 rfl (by omega), x7⟩
  · obtain ⟨s1, s2, s3, s4, s5, s6, s7, s8, s9⟩ := S
    refine ⟨s1, s2, s3, s4, fun t ht i h1 h2 => ?_, fun i j h1 h2 h3 h4 e => ?_, s7, s8, s9⟩
    · by_cases q : i = 120 + ni 40
      · rw [q, kn_us]; exact cc
      · rw [kn_un q]
        refine s5 t ht i h1 ?_
        by_cases q2 : t = 40
        · subst q2; rw [kn_us] at h2; omega
        · rw [kn_un q2] at h2; exact h2
    · rw [kn_us] at h2 h4
      by_cases q1 : i = 120 + ni 40
      · by_cases q2 : j = 120 + ni 40
        · omega
        · rw [q1, kn_us, kn_un q2] at e
          exact absurd ⟨j, h3, by omega, e.symm⟩ nd
      · by_cases q2 : j = 120 + ni 40
        · rw [q2, kn_us, kn_un q1] at e
          exact absurd ⟨i, h1, by omega, e⟩ nd
        · rw [kn_un q1, kn_un q2] at e
          exact s6 i j h1 (by omega) h3 (by omega) e
  · refine zr_D_ext N (Nat.le_refl _) (Nat.le_refl _) (fun t ht => ⟨kn_un (by omega), rfl, fun i h1 h2 => ⟨kn_un (i40 t ht i h2), fun g h => ?_⟩, fun _ _ _ => rfl⟩) (fun b hb => ⟨rfl, rfl, rfl, fun _ _ => rfl⟩) (fun _ _ => rfl) (fun t ht i h1 h2 => ⟨?_, fun z => zs_lt S ht h1 h2 z⟩) Z
    · have n1 := i40 t ht i h2
      unfold kf_fit
      rw [kn_un n1, pk_un n1, pk_un n1]
    · have n1 := i40 t ht i h2
      rw [kn_un n1]
end
theorem i_vc_input {k : Nat} {u : SX} {v : SY} (I : i_Rel k u v) (hk : k + 4 ≤ 2048) (v1 : Int32) (v2 : Int32) (v3 : Int32) : wpX_input (fun r u' => wpY_input (fun r' v' => r' = r ∧ i_Rel (k + 4) u' v') v v1 v2 v3) u v1 v2 v3 := by
  refine I (fun u v => wpX_input (fun r u' => wpY_input (fun r' v' => r' = r ∧ i_Rel (k + 4) u' v') v v1 v2 v3) u v1 v2 v3) ?_
  clear I u v
  intro md bk an tp mn oP tk ic ni nu sc rs nh hd pa he wk ar ch row K fe cl a_op a_number a_tokens a_used a_timed a_inCoin a_inA a_inB a_ins a_amount a_script a_outs a_parent a_height a_work a_holds a_held a_rewardScript a_delivered st fi rw rg wr cn ra fs tr ag bf aa b_parent b_work ba yc fr w wi sp ys ya yo N D S B Z
  have DY := dx_dy D B.1 B.2.1
  have R0 : i_Rel (k + 4) (nI md, nI bk, nI an, nI tp, nI mn, 0, fe, a_op, a_number, a_tokens, a_used, a_timed, st, a_inCoin, a_inA, a_inB, a_ins, a_amount, a_script, a_outs, fi, a_parent, a_height, a_work, a_holds, a_held, a_rewardScript, rw, a_delivered, aa, rg, wr, cn, K.1, K.2.1, K.2.2.1, ra, fs, tr, ag, bf) (nI md, nI bk, nI an, nI (ch tp), nI mn, cl, a_op, a_number, a_tokens, a_ins, a_inCoin, a_inA, a_inB, a_outs, a_amount, a_script, b_parent, b_work, a_rewardScript, a_height, a_holds, a_held, a_delivered, ba, ra, yc, fr, w, wi, sp, ys, ya, yo) := fun P h => h md bk an tp mn oP tk ic ni nu sc rs nh hd pa he wk ar ch row K fe cl a_op a_number a_tokens a_used a_timed a_inCoin a_inA a_inB a_ins a_amount a_script a_outs a_parent a_height a_work a_holds a_held a_rewardScript a_delivered st fi rw rg wr cn ra fs tr ag bf aa b_parent b_work ba yc fr w wi sp ys ya yo N D S B Z
  have out : (v1 < 0 ∨ (152 : Int32) ≤ v1) → wpX_input (fun r u' => wpY_input (fun r' v' => r' = r ∧ i_Rel (k + 4) u' v') (nI md, nI bk, nI an, nI (ch tp), nI mn, cl, a_op, a_number, a_tokens, a_ins, a_inCoin, a_inA, a_inB, a_outs, a_amount, a_script, b_parent, b_work, a_rewardScript, a_height, a_holds, a_held, a_delivered, ba, ra, yc, fr, w, wi, sp, ys, ya, yo) v1 v2 v3) (nI md, nI bk, nI an, nI tp, nI mn, 0, fe, a_op, a_number, a_tokens, a_used, a_timed, st, a_inCoin, a_inA, a_inB, a_ins, a_amount, a_script, a_outs, fi, a_parent, a_height, a_work, a_holds, a_held, a_rewardScript, rw, a_delivered, aa, rg, wr, cn, K.1, K.2.1, K.2.2.1, ra, fs, tr, ag, bf) v1 v2 v3 := by
    intro q
    unfold wpX_input wpX_isCoin
    refine xx_no0 q ?_
    refine br_f kn_10 ?_
    refine br_t rfl ?_
    unfold wpY_input wpY_isCoin
    refine yy_in0 q ?_
    refine br_t rfl ?_
    exact br_t rfl ⟨rfl, R0⟩
  rcases pk_ix v1 (n := 152) (by omega) with q | q | ⟨c, hc, rfl⟩
  · exact out (Or.inl q)
  · exact out (Or.inr q)
  have d := kn_l (dx_ni D) 40
  unfold wpX_input
  refine xx_isCoin hc N D (fun cc => ?_) (fun cc => ?_)
  · have Y1 : ∀ post : Int32 → SY → Prop, (∃ n14 : Nat, wY_input_14 post (nI c) v2 v3 (nI md) (nI bk) (nI an) (nI (ch tp)) (nI mn) cl a_op a_number a_tokens a_ins a_inCoin a_inA a_inB a_outs a_amount a_script b_parent b_work a_rewardScript a_height a_holds a_held a_delivered ba ra yc fr w wi sp ys ya yo n14 120) → wpY_input post (nI md, nI bk, nI an, nI (ch tp), nI mn, cl, a_op, a_number, a_tokens, a_ins, a_inCoin, a_inA, a_inB, a_outs, a_amount, a_script, b_parent, b_work, a_rewardScript, a_height, a_holds, a_held, a_delivered, ba, ra, yc, fr, w, wi, sp, ys, ya, yo) (nI c) v2 v3 := by
      intro post W
      unfold wpY_input
      refine yy_isCoin hc N DY (fun _ => ?_) (fun q => absurd cc q)
      exact br_f kn_10 W
    refine br_f kn_10 ⟨ni 40 + 1, xx_in14 hc D (fun q => Y1 _ ?_) (fun nd q => Y1 _ ?_) (fun nd q => Y1 _ ?_) (ni 40) 120 _ (by omega) (by omega) (fun j h1 h2 => by omega) (by omega)⟩
    · exact ⟨ni 40 + 1, yy_in14 hc DY (fun _ => ⟨rfl, R0⟩) (fun y => absurd q y) (fun y => absurd q y) (ni 40) 120 _ (by omega) (by omega) (fun j h1 h2 => by omega) (by omega)⟩
    · exact ⟨ni 40 + 1, yy_in14 hc DY (fun y => absurd y nd) (fun _ _ => ⟨rfl, R0⟩) (fun _ y => by omega) (ni 40) 120 _ (by omega) (by omega) (fun j h1 h2 => by omega) (by omega)⟩
    · obtain ⟨N', D', S', Z'⟩ := zz_inp (a := v2) (b := v3) hc cc q nd N D S Z
      exact ⟨ni 40 + 1, yy_in14 hc DY (fun y => absurd y nd) (fun _ y => by omega) (fun _ _ => ⟨rfl, fun P h => h md bk an tp mn oP tk (kn_u ic (120 + ni 40) c) (kn_u ni 40 (ni 40 + 1)) nu sc rs nh hd pa he wk ar ch row K fe cl a_op a_number a_tokens a_used a_timed (upd a_inCoin (120 + ni 40) (nI c)) (upd a_inA (120 + ni 40) v2) (upd a_inB (120 + ni 40) v3) (upd a_ins 40 (nI (ni 40 + 1))) a_amount a_script a_outs a_parent a_height a_work a_holds a_held a_rewardScript a_delivered st fi rw rg wr cn ra fs tr ag bf aa b_parent b_work ba yc fr w wi sp ys ya yo N' D' S' B Z'⟩) (ni 40) 120 _ (by omega) (by omega) (fun j h1 h2 => by omega) (by omega)⟩
  · refine br_t rfl ?_
    unfold wpY_input
    refine yy_isCoin hc N DY (fun q => absurd q cc) (fun _ => ?_)
    exact br_t rfl ⟨rfl, R0⟩
section
variable {md bk an tp mn : Nat} {oP tk ic ni nu sc rs nh hd pa he wk ar ch row : Nat → Nat} {K : kc_K} {fe cl : Int32} {a_op a_number a_tokens a_used a_timed a_inCoin a_inA a_inB a_ins a_amount a_script a_outs a_parent a_height a_work a_holds a_held a_rewardScript a_delivered st fi rw rg wr cn ra fs tr ag bf aa b_parent b_work ba yc fr w wi sp ys ya yo : Nat → Int32}
theorem zz_out {s m : Nat} (hs : s < 8) (hm : m < 1001) (n3 : nu 40 < 3) (N : kd_N oP tk ic ni nu sc rs nh hd pa he md bk) (D : kx_D a_op a_number a_tokens a_timed a_inCoin a_ins a_outs a_script a_rewardScript a_holds a_held a_parent a_height oP tk ic ni nu sc rs nh hd pa he) (S : zr_S md bk oP tk ic ni nu sc rs nh hd a_used a_timed a_amount a_delivered) (Z : zr_D (kc_W ic ni nu a_amount (kf_fit oP a_number tk ic a_inA a_inB sc rs) nh hd pa he) (kf_C md ni a_timed (fun i => kx_s sc rs (ic i)) (kf_fit oP a_number tk ic a_inA a_inB sc rs)) bk md pa he ic ni nu a_amount tp mn ch row K fi rw rg wr cn ra fs tr fr wi sp) :
    kd_N oP tk ic ni (kn_u nu 40 (nu 40 + 1)) (kn_u sc (120 + nu 40) s) rs nh hd pa he md bk ∧
    kx_D a_op a_number a_tokens a_timed a_inCoin a_ins (upd a_outs 40 (nI (nu 40 + 1))) (upd a_script (120 + nu 40) (nI s)) a_rewardScript a_holds a_held a_parent a_height oP tk ic ni (kn_u nu 40 (nu 40 + 1)) (kn_u sc (120 + nu 40) s) rs nh hd pa he ∧
    zr_S md bk oP tk ic ni (kn_u nu 40 (nu 40 + 1)) (kn_u sc (120 + nu 40) s) rs nh hd a_used a_timed (upd a_amount (120 + nu 40) (nI m)) a_delivered ∧
    zr_D (kc_W ic ni (kn_u nu 40 (nu 40 + 1)) (upd a_amount (120 + nu 40) (nI m)) (kf_fit oP a_number tk ic a_inA a_inB (kn_u sc (120 + nu 40) s) rs) nh hd pa he) (kf_C md ni a_timed (fun i => kx_s (kn_u sc (120 + nu 40) s) rs (ic i)) (kf_fit oP a_number tk ic a_inA a_inB (kn_u sc (120 + nu 40) s) rs)) bk md pa he ic ni (kn_u nu 40 (nu 40 + 1)) (upd a_amount (120 + nu 40) (nI m)) tp mn ch row K fi rw rg wr cn ra fs tr fr wi sp := by
  have m40 := kd_md N
  have o40 : ∀ t, t < md → ∀ i, i < 3 * t + nu t → i ≠ 120 + nu 40 := fun t ht i h => by have := kn_l (dx_nu D) t; omega
  have ks : ∀ c, kx_s (kn_u sc (120 + nu 40) s) rs c = kx_s sc rs c := fun c => by
    unfold kx_s
    by_cases q : c < 120
    · rw [if_pos q, if_pos q, kn_un (by omega)]
    · rw [if_neg q, if_neg q]
  refine ⟨?_, ?_, ?_, ?_⟩
  · obtain ⟨n1, n2, n3', n4, n5, n6, n7⟩ := N
    refine ⟨n1, n2, n3', n4, fun k => ?_, fun k => ?_, n7⟩
    · by_cases q : k = 40
      · rw [q, kn_us]; omega
      · rw [kn_un q]; exact n5 k
    · by_cases q : k = 120 + nu 40
      · rw [q, kn_us]; exact hs
      · rw [kn_un q]; exact n6 k
  · obtain ⟨x1, x2, x3, x4, x5, x6, x7, x8, x9⟩ := D
    exact ⟨x1, x2, x3, x4, x5, x6, kn_upd x7 rfl (by omega), kn_upd x8 rfl hs, x9⟩
  · obtain ⟨s1, s2, ⟨am, s3⟩, s4, s5, s6, s7, s8, s9⟩ := S
    refine ⟨s1, s2, ⟨kn_u am (120 + nu 40) m, kn_upd s3 rfl hm⟩, fun x hx => ?_, fun t ht i h1 h2 => ⟨fun z => ?_, (s5 t ht i h1 h2).2⟩, s6, s7, s8, s9⟩
    · rw [s4 x hx]
      constructor
      · rintro (q | ⟨t, ht, o, o1, o2, o3⟩)
        · exact Or.inl q
        · exact Or.inr ⟨t, ht, o, o1, by rw [kn_un (by omega)]; exact o2, by rw [kn_un (o40 t ht o o2)]; exact o3⟩
      · rintro (q | ⟨t, ht, o, o1, o2, o3⟩)
        · exact Or.inl q
        · rw [kn_un (by omega)] at o2
          rw [kn_un (o40 t ht o o2)] at o3
          exact Or.inr ⟨t, ht, o, o1, o2, o3⟩
    · obtain ⟨a1, a2⟩ := (s5 t ht i h1 h2).1 z
      exact ⟨a1, by rw [kn_un (by omega)]; exact a2⟩
  · refine zr_D_ext N (Nat.le_refl _) (Nat.le_refl _) (fun t ht => ⟨rfl, kn_un (by omega), fun i h1 h2 => ⟨rfl, fun g h => ?_⟩, fun o h1 h2 => pk_un (o40 t ht o h2)⟩) (fun b hb => ⟨rfl, rfl, rfl, fun _ _ => rfl⟩) (fun c hc => pk_un (by omega)) (fun t ht i h1 h2 => ⟨?_, fun z => zs_lt S ht h1 h2 z⟩) Z
    · unfold kf_fit; rw [ks]
    · rw [ks]
end
theorem i_vc_output {k : Nat} {u : SX} {v : SY} (I : i_Rel k u v) (hk : k + 4 ≤ 2048) (v1 : Int32) (v2 : Int32) : wpX_output (fun r u' => wpY_output (fun r' v' => r' = r ∧ i_Rel (k + 4) u' v') v v1 v2) u v1 v2 := by
  refine I (fun u v => wpX_output (fun r u' => wpY_output (fun r' v' => r' = r ∧ i_Rel (k + 4) u' v') v v1 v2) u v1 v2) ?_
  clear I u v
  intro md bk an tp mn oP tk ic ni nu sc rs nh hd pa he wk ar ch row K fe cl a_op a_number a_tokens a_used a_timed a_inCoin a_inA a_inB a_ins a_amount a_script a_outs a_parent a_height a_work a_holds a_held a_rewardScript a_delivered st fi rw rg wr cn ra fs tr ag bf aa b_parent b_work ba yc fr w wi sp ys ya yo N D S B Z
  have R0 : i_Rel (k + 4) (nI md, nI bk, nI an, nI tp, nI mn, 0, fe, a_op, a_number, a_tokens, a_used, a_timed, st, a_inCoin, a_inA, a_inB, a_ins, a_amount, a_script, a_outs, fi, a_parent, a_height, a_work, a_holds, a_held, a_rewardScript, rw, a_delivered, aa, rg, wr, cn, K.1, K.2.1, K.2.2.1, ra, fs, tr, ag, bf) (nI md, nI bk, nI an, nI (ch tp), nI mn, cl, a_op, a_number, a_tokens, a_ins, a_inCoin, a_inA, a_inB, a_outs, a_amount, a_script, b_parent, b_work, a_rewardScript, a_height, a_holds, a_held, a_delivered, ba, ra, yc, fr, w, wi, sp, ys, ya, yo) := fun P h => h md bk an tp mn oP tk ic ni nu sc rs nh hd pa he wk ar ch row K fe cl a_op a_number a_tokens a_used a_timed a_inCoin a_inA a_inB a_ins a_amount a_script a_outs a_parent a_height a_work a_holds a_held a_rewardScript a_delivered st fi rw rg wr cn ra fs tr ag bf aa b_parent b_work ba yc fr w wi sp ys ya yo N D S B Z
  have d := kn_l (dx_nu D) 40
  have e40 : a_outs 40 = nI (nu 40) := kn_e (dx_nu D) 40
  have e120 : 120 + a_outs 40 = nI (120 + nu 40) := by rw [e40]; exact nI_add 120 _
  refine br_c (fun z1 => br_t z1 ⟨rfl, R0⟩) (fun z1 => br_c (fun z2 => br_f z1 (br_t z2 ⟨rfl, R0⟩)) (fun z2 => ?_))
  obtain ⟨m, hm, rfl⟩ : ∃ m, m ≤ 1000 ∧ v1 = nI m := nI_of2 (M := 1000) (n := 1000) (by decide) (fun q => z1 (Int32.lt_trans q (by decide))) (Int32.not_lt.mp z2)
  rcases pk_ix v2 (n := 8) (by omega) with q | q | ⟨s, hs, rfl⟩
  · refine xx_no0 (Or.inl q) ?_
    refine br_f kn_10 (br_f z1 (br_f z2 ?_))
    refine yy_in0 (Or.inl q) ?_
    exact br_t rfl ⟨rfl, R0⟩
  · refine xx_no0 (y := 8) (Or.inr q) ?_
    refine br_f kn_10 (br_f z1 (br_f z2 ?_))
    refine yy_in0 (y := 8) (Or.inr q) ?_
    exact br_t rfl ⟨rfl, R0⟩
  · refine xx_no1 (n := 8) hs (by omega) ?_
    refine br_t rfl (pk_eq (nu 40) 3 (fun z => br_f z1 (br_f z2 ?_)) (fun z => ?_) e40)
    · refine yy_in1 (n := 8) hs (by omega) ?_
      exact br_f kn_10 (pk_eq (nu 40) 3 (fun _ => ⟨rfl, R0⟩) (fun y => absurd z y) e40)
    · have i123 : vp_in (nI (120 + nu 40)) 123 := pk_in (120 + nu 40) 123 (by omega)
      have up : upd a_outs 40 (nI (nu 40 + 1)) 40 = nI (nu 40 + 1) := pk_us
      refine nm_r (e' := upd a_outs 40 (nI (nu 40 + 1))) (by rw [kn_vb2 (nu 40 + 1) (by rw [e40, nI_1])]) (nm_r e120 (And.intro i123 (nm_r (kn_uv (120 + nu 40) (kn_vs2 m)) (And.intro i123 (nm_r (kn_uv (120 + nu 40) (kn_vb2 s)) (br_f z1 (br_f z2 ?_)))))))
      refine yy_in1 (n := 8) hs (by omega) ?_
      refine br_f kn_10 (pk_eq (nu 40) 3 (fun y => absurd y z) (fun _ => ?_) e40)
      obtain ⟨N', D', S', Z'⟩ := zz_out hs (show m < 1001 by omega) (show nu 40 < 3 by omega) N D S Z
      refine nm_r e120 (And.intro i123 (nm_r (kn_ux (120 + nu 40)) (And.intro i123 (nm_r (kn_ux (120 + nu 40)) (nm_r (e' := upd a_outs 40 (nI (nu 40 + 1))) (by rw [e40, nI_1]) ⟨?_, ?_⟩)))))
      · rfl
      · exact fun P h => h md bk an tp mn oP tk ic ni (kn_u nu 40 (nu 40 + 1)) (kn_u sc (120 + nu 40) s) rs nh hd pa he wk ar ch row K fe cl a_op a_number a_tokens a_used a_timed a_inCoin a_inA a_inB a_ins (upd a_amount (120 + nu 40) (nI m)) (upd a_script (120 + nu 40) (nI s)) (upd a_outs 40 (nI (nu 40 + 1))) a_parent a_height a_work a_holds a_held a_rewardScript a_delivered st fi rw rg wr cn ra fs tr ag bf aa b_parent b_work ba yc fr w wi sp ys ya yo N' D' S' B Z'
/-! put -/
section
variable {f_made f_blocks f_arrivals f_top f_many f_agains f_feeNow : Int32} {a_op a_number a_tokens a_used a_timed a_stack a_inCoin a_inA a_inB a_ins a_amount a_script a_outs a_fitting a_parent a_height a_work a_holds a_held a_rewardScript a_reward a_delivered a_arrival a_right a_wrong a_chain a_born a_spent a_since a_row a_fees a_taker a_again a_before : Nat → Int32} {oP tk ic ni nu sc rs nh hd pa he : Nat → Nat} {md bk : Nat}
theorem xx_put17 {post : Int32 → SX → Prop} {t : Nat} (ht : t < 40) (D : kx_D a_op a_number a_tokens a_timed a_inCoin a_ins a_outs a_script a_rewardScript a_holds a_held a_parent a_height oP tk ic ni nu sc rs nh hd pa he)
    (k1 : (∃ i, 128 ≤ i ∧ i < 128 + nh 32 ∧ hd i = t) → post (-1) (f_made, f_blocks, f_arrivals, f_top, f_many, f_agains, f_feeNow, a_op, a_number, a_tokens, a_used, a_timed, a_stack, a_inCoin, a_inA, a_inB, a_ins, a_amount, a_script, a_outs, a_fitting, a_parent, a_height, a_work, a_holds, a_held, a_rewardScript, a_reward, a_delivered, a_arrival, a_right, a_wrong, a_chain, a_born, a_spent, a_since, a_row, a_fees, a_taker, a_again, a_before))
    (k3 : ¬ (∃ i, 128 ≤ i ∧ i < 128 + nh 32 ∧ hd i = t) → nh 32 = 4 → post (-5) (f_made, f_blocks, f_arrivals, f_top, f_many, f_agains, f_feeNow, a_op, a_number, a_tokens, a_used, a_timed, a_stack, a_inCoin, a_inA, a_inB, a_ins, a_amount, a_script, a_outs, a_fitting, a_parent, a_height, a_work, a_holds, a_held, a_rewardScript, a_reward, a_delivered, a_arrival, a_right, a_wrong, a_chain, a_born, a_spent, a_since, a_row, a_fees, a_taker, a_again, a_before))
    (k2 : ¬ (∃ i, 128 ≤ i ∧ i < 128 + nh 32 ∧ hd i = t) → nh 32 < 4 → post (nI (nh 32 + 1)) (f_made, f_blocks, f_arrivals, f_top, f_many, f_agains, f_feeNow, a_op, a_number, a_tokens, a_used, a_timed, a_stack, a_inCoin, a_inA, a_inB, a_ins, a_amount, a_script, a_outs, a_fitting, a_parent, a_height, a_work, upd a_holds 32 (nI (nh 32 + 1)), upd a_held (128 + nh 32) (nI t), a_rewardScript, a_reward, a_delivered, a_arrival, a_right, a_wrong, a_chain, a_born, a_spent, a_since, a_row, a_fees, a_taker, a_again, a_before)) :
    ∀ (m i n : Nat), i + m = 128 + nh 32 → 128 ≤ i → (∀ j, 128 ≤ j → j < i → hd j ≠ t) → m < n → wX_put_17 post (nI t) f_made f_blocks f_arrivals f_top f_many f_agains f_feeNow a_op a_number a_tokens a_used a_timed a_stack a_inCoin a_inA a_inB a_ins a_amount a_script a_outs a_fitting a_parent a_height a_work a_holds a_held a_rewardScript a_reward a_delivered a_arrival a_right a_wrong a_chain a_born a_spent a_since a_row a_fees a_taker a_again a_before n (nI i) := by
  have d := kn_l (dx_nh D) 32
  have e32 : a_holds 32 = nI (nh 32) := kn_e (dx_nh D) 32
  have e128 : 128 + a_holds 32 = nI (128 + nh 32) := by rw [e32]; exact nI_add 128 _
  intro m
  induction m with
  | zero =>
    intro i n e h1 M hn
    obtain ⟨n, rfl⟩ : ∃ n', n = n' + 1 := ⟨n - 1, by omega⟩
    have nd : ¬ (∃ i, 128 ≤ i ∧ i < 128 + nh 32 ∧ hd i = t) := fun ⟨j, a, b, c⟩ => M j a (by omega) c
    refine pk_le (128 + nh 32) i (fun _ => pk_eq (nh 32) 4 (fun z => k3 nd z) (fun z => ?_) e32) (fun z => by omega) e128
    refine nm_r (e' := upd a_holds 32 (nI (nh 32 + 1))) (by rw [kn_vb2 (nh 32 + 1) (by rw [e32, nI_1])]) (And.intro (pk_in (128 + nh 32) 132 (by omega) e128) (nm_r (kn_uv (128 + nh 32) (kn_vb2 t) e128) ?_))
    rw [show upd a_holds 32 (nI (nh 32 + 1)) 32 = nI (nh 32 + 1) from pk_us]
    exact k2 nd (by omega)
  | succ m ih =>
    intro i n e h1 M hn
    obtain ⟨n, rfl⟩ : ∃ n', n = n' + 1 := ⟨n - 1, by omega⟩
    have cl := kn_l (dx_hd D) i
    refine pk_le (128 + nh 32) i (fun z => by omega) (fun z => And.intro (pk_in i 132 (by omega)) ?_) e128
    rw [kn_at (dx_hd D) i]
    refine pk_eq (hd i) t (fun y => k1 ⟨i, h1, z, y⟩) (fun y => nm_r (nI_1 i) (ih (i + 1) n (by omega) (by omega) (fun j h2 h3 => ?_) (by omega)))
    by_cases q : j = i
    · rw [q]; exact y
    · exact M j h2 (by omega)
end
section
variable {g_made g_blocks g_arrivals g_tip g_pooled g_chainLength : Int32} {b_op b_arg b_length b_ins b_inCoin b_inA b_inB b_outs b_amount b_lock b_parent b_work b_rewardLock b_height b_many b_holds b_delivered b_arrived b_pool b_chain b_from b_worth b_within b_spent b_stack b_again b_chosen : Nat → Int32} {oP tk ic ni nu sc rs nh hd pa he : Nat → Nat} {md bk : Nat}
theorem yy_put17 {post : Int32 → SY → Prop} {t : Nat} (ht : t < 40) (D : ky_D b_op b_arg b_length b_inCoin b_ins b_outs b_lock b_rewardLock b_many b_holds b_parent b_height oP tk ic ni nu sc rs nh hd pa he)
    (k1 : (∃ i, 128 ≤ i ∧ i < 128 + nh 32 ∧ hd i = t) → post (-1) (g_made, g_blocks, g_arrivals, g_tip, g_pooled, g_chainLength, b_op, b_arg, b_length, b_ins, b_inCoin, b_inA, b_inB, b_outs, b_amount, b_lock, b_parent, b_work, b_rewardLock, b_height, b_many, b_holds, b_delivered, b_arrived, b_pool, b_chain, b_from, b_worth, b_within, b_spent, b_stack, b_again, b_chosen))
    (k3 : ¬ (∃ i, 128 ≤ i ∧ i < 128 + nh 32 ∧ hd i = t) → nh 32 = 4 → post (-5) (g_made, g_blocks, g_arrivals, g_tip, g_pooled, g_chainLength, b_op, b_arg, b_length, b_ins, b_inCoin, b_inA, b_inB, b_outs, b_amount, b_lock, b_parent, b_work, b_rewardLock, b_height, b_many, b_holds, b_delivered, b_arrived, b_pool, b_chain, b_from, b_worth, b_within, b_spent, b_stack, b_again, b_chosen))
    (k2 : ¬ (∃ i, 128 ≤ i ∧ i < 128 + nh 32 ∧ hd i = t) → nh 32 < 4 → post (nI (nh 32 + 1)) (g_made, g_blocks, g_arrivals, g_tip, g_pooled, g_chainLength, b_op, b_arg, b_length, b_ins, b_inCoin, b_inA, b_inB, b_outs, b_amount, b_lock, b_parent, b_work, b_rewardLock, b_height, upd b_many 32 (nI (nh 32 + 1)), upd b_holds (128 + nh 32) (nI t), b_delivered, b_arrived, b_pool, b_chain, b_from, b_worth, b_within, b_spent, b_stack, b_again, b_chosen)) :
    ∀ (m i n : Nat), i + m = 128 + nh 32 → 128 ≤ i → (∀ j, 128 ≤ j → j < i → hd j ≠ t) → m < n → wY_put_17 post (nI t) g_made g_blocks g_arrivals g_tip g_pooled g_chainLength b_op b_arg b_length b_ins b_inCoin b_inA b_inB b_outs b_amount b_lock b_parent b_work b_rewardLock b_height b_many b_holds b_delivered b_arrived b_pool b_chain b_from b_worth b_within b_spent b_stack b_again b_chosen n (nI i) := by
  have d := kn_l (dy_nh D) 32
  have e32 : b_many 32 = nI (nh 32) := kn_e (dy_nh D) 32
  have e128 : 128 + b_many 32 = nI (128 + nh 32) := by rw [e32]; exact nI_add 128 _
  intro m
  induction m with
  | zero =>
    intro i n e h1 M hn
    obtain ⟨n, rfl⟩ : ∃ n', n = n' + 1 := ⟨n - 1, by omega⟩
    have nd : ¬ (∃ i, 128 ≤ i ∧ i < 128 + nh 32 ∧ hd i = t) := fun ⟨j, a, b, c⟩ => M j a (by omega) c
    refine pk_le (128 + nh 32) i (fun _ => pk_eq (nh 32) 4 (fun z => k3 nd z) (fun z => ?_) e32) (fun z => by omega) e128
    refine And.intro (pk_in (128 + nh 32) 132 (by omega) e128) (nm_r (kn_ux (128 + nh 32) e128) (nm_r (e' := upd b_many 32 (nI (nh 32 + 1))) (by rw [e32, nI_1]) ?_))
    rw [show upd b_many 32 (nI (nh 32 + 1)) 32 = nI (nh 32 + 1) from pk_us]
    exact k2 nd (by omega)
  | succ m ih =>
    intro i n e h1 M hn
    obtain ⟨n, rfl⟩ : ∃ n', n = n' + 1 := ⟨n - 1, by omega⟩
    have cl := kn_l (dy_hd D) i
    refine pk_le (128 + nh 32) i (fun z => by omega) (fun z => And.intro (pk_in i 132 (by omega)) ?_) e128
    rw [kn_at (dy_hd D) i]
    refine pk_eq (hd i) t (fun y => k1 ⟨i, h1, z, y⟩) (fun y => nm_r (nI_1 i) (ih (i + 1) n (by omega) (by omega) (fun j h2 h3 => ?_) (by omega)))
    by_cases q : j = i
    · rw [q]; exact y
    · exact M j h2 (by omega)
end
section
variable {md bk an tp mn : Nat} {oP tk ic ni nu sc rs nh hd pa he wk ar ch row : Nat → Nat} {K : kc_K} {fe cl : Int32} {a_op a_number a_tokens a_used a_timed a_inCoin a_inA a_inB a_ins a_amount a_script a_outs a_parent a_height a_work a_holds a_held a_rewardScript a_delivered st fi rw rg wr cn ra fs tr ag bf aa b_parent b_work ba yc fr w wi sp ys ya yo : Nat → Int32}
theorem zz_put {t : Nat} (ht : t < md) (n4 : nh 32 < 4) (N : kd_N oP tk ic ni nu sc rs nh hd pa he md bk) (D : kx_D a_op a_number a_tokens a_timed a_inCoin a_ins a_outs a_script a_rewardScript a_holds a_held a_parent a_height oP tk ic ni nu sc rs nh hd pa he) (S : zr_S md bk oP tk ic ni nu sc rs nh hd a_used a_timed a_amount a_delivered) (Z : zr_D (kc_W ic ni nu a_amount (kf_fit oP a_number tk ic a_inA a_inB sc rs) nh hd pa he) (kf_C md ni a_timed (fun i => kx_s sc rs (ic i)) (kf_fit oP a_number tk ic a_inA a_inB sc rs)) bk md pa he ic ni nu a_amount tp mn ch row K fi rw rg wr cn ra fs tr fr wi sp) :
    kd_N oP tk ic ni nu sc rs (kn_u nh 32 (nh 32 + 1)) (kn_u hd (128 + nh 32) t) pa he md bk ∧
    kx_D a_op a_number a_tokens a_timed a_inCoin a_ins a_outs a_script a_rewardScript (upd a_holds 32 (nI (nh 32 + 1))) (upd a_held (128 + nh 32) (nI t)) a_parent a_height oP tk ic ni nu sc rs (kn_u nh 32 (nh 32 + 1)) (kn_u hd (128 + nh 32) t) pa he ∧
    zr_S md bk oP tk ic ni nu sc rs (kn_u nh 32 (nh 32 + 1)) (kn_u hd (128 + nh 32) t) a_used a_timed a_amount a_delivered ∧
    zr_D (kc_W ic ni nu a_amount (kf_fit oP a_number tk ic a_inA a_inB sc rs) (kn_u nh 32 (nh 32 + 1)) (kn_u hd (128 + nh 32) t) pa he) (kf_C md ni a_timed (fun i => kx_s sc rs (ic i)) (kf_fit oP a_number tk ic a_inA a_inB sc rs)) bk md pa he ic ni nu a_amount tp mn ch row K fi rw rg wr cn ra fs tr fr wi sp := by
  have m40 := kd_md N
  have b32 := kd_bk N
  have bn : ∀ b, b < bk → b ≠ 32 := fun b h => by omega
  have kn : ∀ b, b < bk → ∀ k, k < nh b → 4 * b + k ≠ 128 + nh 32 := fun b hb k hk => by have := kn_l (dx_nh D) b; omega
  refine ⟨?_, ?_, ?_, ?_⟩
  · obtain ⟨n1, n2, n3, n4', n5, n6, n7, n8, n9, n10, n11, n12, n13, n14⟩ := N
    refine ⟨n1, n2, n3, n4', n5, n6, n7, fun k => ?_, fun k => ?_, n10, n11, fun b hb k hk => ?_, ?_, n14⟩
    · by_cases q : k = 32
      · rw [q, kn_us]; omega
      · rw [kn_un q]; exact n8 k
    · by_cases q : k = 128 + nh 32
      · rw [q, kn_us]; omega
      · rw [kn_un q]; exact n9 k
    · rw [kn_un (bn b hb)] at hk
      rw [kn_un (kn b hb k hk)]; exact n12 b hb k hk
    · rw [kn_un (by omega)]; exact n13
  · obtain ⟨x1, x2, x3, x4, x5, x6, x7, x8, x9, x10, x11, x12⟩ := D
    exact ⟨x1, x2, x3, x4, x5, x6, x7, x8, x9, kn_upd x10 rfl (by omega), kn_upd x11 rfl (by omega), x12⟩
  · obtain ⟨s1, s2, s3, s4, s5, s6, s7, s8, s9⟩ := S
    refine ⟨s1, s2, s3, s4, s5, s6, fun k hk => ?_, fun b h1 h2 => ?_, s9⟩
    · rw [kn_us] at hk
      by_cases q : k = nh 32
      · rw [q, kn_us]; exact ht
      · rw [kn_un (by omega)]; exact s7 k (by omega)
    · rw [kn_un (by omega)]; exact s8 b h1 h2
  · exact zr_D_ext N (Nat.le_refl _) (Nat.le_refl _) (fun t ht => ⟨rfl, rfl, fun i h1 h2 => ⟨rfl, fun g h => rfl⟩, fun _ _ _ => rfl⟩) (fun b hb => ⟨kn_un (bn b hb), rfl, rfl, fun k hk => kn_un (kn b hb k hk)⟩) (fun _ _ => rfl) (fun t ht i h1 h2 => ⟨rfl, fun z => zs_lt S ht h1 h2 z⟩) Z
end
theorem i_vc_put {k : Nat} {u : SX} {v : SY} (I : i_Rel k u v) (hk : k + 4 ≤ 2048) (v1 : Int32) : wpX_put (fun r u' => wpY_put (fun r' v' => r' = r ∧ i_Rel (k + 4) u' v') v v1) u v1 := by
  refine I (fun u v => wpX_put (fun r u' => wpY_put (fun r' v' => r' = r ∧ i_Rel (k + 4) u' v') v v1) u v1) ?_
  clear I u v
  intro md bk an tp mn oP tk ic ni nu sc rs nh hd pa he wk ar ch row K fe cl a_op a_number a_tokens a_used a_timed a_inCoin a_inA a_inB a_ins a_amount a_script a_outs a_parent a_height a_work a_holds a_held a_rewardScript a_delivered st fi rw rg wr cn ra fs tr ag bf aa b_parent b_work ba yc fr w wi sp ys ya yo N D S B Z
  have m40 := kd_md N
  have DY := dx_dy D B.1 B.2.1
  have R0 : i_Rel (k + 4) (nI md, nI bk, nI an, nI tp, nI mn, 0, fe, a_op, a_number, a_tokens, a_used, a_timed, st, a_inCoin, a_inA, a_inB, a_ins, a_amount, a_script, a_outs, fi, a_parent, a_height, a_work, a_holds, a_held, a_rewardScript, rw, a_delivered, aa, rg, wr, cn, K.1, K.2.1, K.2.2.1, ra, fs, tr, ag, bf) (nI md, nI bk, nI an, nI (ch tp), nI mn, cl, a_op, a_number, a_tokens, a_ins, a_inCoin, a_inA, a_inB, a_outs, a_amount, a_script, b_parent, b_work, a_rewardScript, a_height, a_holds, a_held, a_delivered, ba, ra, yc, fr, w, wi, sp, ys, ya, yo) := fun P h => h md bk an tp mn oP tk ic ni nu sc rs nh hd pa he wk ar ch row K fe cl a_op a_number a_tokens a_used a_timed a_inCoin a_inA a_inB a_ins a_amount a_script a_outs a_parent a_height a_work a_holds a_held a_rewardScript a_delivered st fi rw rg wr cn ra fs tr ag bf aa b_parent b_work ba yc fr w wi sp ys ya yo N D S B Z
  have out : (v1 < 0 ∨ nI md ≤ v1) → wpX_put (fun r u' => wpY_put (fun r' v' => r' = r ∧ i_Rel (k + 4) u' v') (nI md, nI bk, nI an, nI (ch tp), nI mn, cl, a_op, a_number, a_tokens, a_ins, a_inCoin, a_inA, a_inB, a_outs, a_amount, a_script, b_parent, b_work, a_rewardScript, a_height, a_holds, a_held, a_delivered, ba, ra, yc, fr, w, wi, sp, ys, ya, yo) v1) (nI md, nI bk, nI an, nI tp, nI mn, 0, fe, a_op, a_number, a_tokens, a_used, a_timed, st, a_inCoin, a_inA, a_inB, a_ins, a_amount, a_script, a_outs, fi, a_parent, a_height, a_work, a_holds, a_held, a_rewardScript, rw, a_delivered, aa, rg, wr, cn, K.1, K.2.1, K.2.2.1, ra, fs, tr, ag, bf) v1 := by
    intro q
    unfold wpX_put
    refine xx_no0 q ?_
    refine br_f kn_10 ?_
    unfold wpY_put
    refine yy_in0 q ?_
    exact br_t rfl ⟨rfl, R0⟩
  rcases pk_ix v1 (n := md) (by omega) with q | q | ⟨t, ht, rfl⟩
  · exact out (Or.inl q)
  · exact out (Or.inr q)
  have d := kn_l (dx_nh D) 32
  have Y1 : ∀ post : Int32 → SY → Prop, (∃ n17 : Nat, wY_put_17 post (nI t) (nI md) (nI bk) (nI an) (nI (ch tp)) (nI mn) cl a_op a_number a_tokens a_ins a_inCoin a_inA a_inB a_outs a_amount a_script b_parent b_work a_rewardScript a_height a_holds a_held a_delivered ba ra yc fr w wi sp ys ya yo n17 128) → wpY_put post (nI md, nI bk, nI an, nI (ch tp), nI mn, cl, a_op, a_number, a_tokens, a_ins, a_inCoin, a_inA, a_inB, a_outs, a_amount, a_script, b_parent, b_work, a_rewardScript, a_height, a_holds, a_held, a_delivered, ba, ra, yc, fr, w, wi, sp, ys, ya, yo) (nI t) := by
    intro post W
    unfold wpY_put
    refine yy_in1 ht (by omega) ?_
    exact br_f kn_10 W
  unfold wpX_put
  refine xx_no1 ht (by omega) ?_
  refine br_t rfl ⟨nh 32 + 1, xx_put17 (by omega) D (fun q => Y1 _ ?_) (fun nd q => Y1 _ ?_) (fun nd q => Y1 _ ?_) (nh 32) 128 _ (by omega) (by omega) (fun j h1 h2 => by omega) (by omega)⟩
  · exact ⟨nh 32 + 1, yy_put17 (by omega) DY (fun _ => ⟨rfl, R0⟩) (fun y => absurd q y) (fun y => absurd q y) (nh 32) 128 _ (by omega) (by omega) (fun j h1 h2 => by omega) (by omega)⟩
  · exact ⟨nh 32 + 1, yy_put17 (by omega) DY (fun y => absurd y nd) (fun _ _ => ⟨rfl, R0⟩) (fun _ y => by omega) (nh 32) 128 _ (by omega) (by omega) (fun j h1 h2 => by omega) (by omega)⟩
  · obtain ⟨N', D', S', Z'⟩ := zz_put ht q N D S Z
    exact ⟨nh 32 + 1, yy_put17 (by omega) DY (fun y => absurd y nd) (fun _ y => by omega) (fun _ _ => ⟨rfl, fun P h => h md bk an tp mn oP tk ic ni nu sc rs (kn_u nh 32 (nh 32 + 1)) (kn_u hd (128 + nh 32) t) pa he wk ar ch row K fe cl a_op a_number a_tokens a_used a_timed a_inCoin a_inA a_inB a_ins a_amount a_script a_outs a_parent a_height a_work (upd a_holds 32 (nI (nh 32 + 1))) (upd a_held (128 + nh 32) (nI t)) a_rewardScript a_delivered st fi rw rg wr cn ra fs tr ag bf aa b_parent b_work ba yc fr w wi sp ys ya yo N' D' S' B Z'⟩) (nh 32) 128 _ (by omega) (by omega) (fun j h1 h2 => by omega) (by omega)⟩
end
section
/-! ===== make ===== -/
def zc_c {α : Type} (k : Nat) (f : Nat → α) (t : Nat) : Nat → α := fun i => if 3 * t ≤ i ∧ i < 3 * t + k then f (120 + (i - 3 * t)) else f i
theorem zc_lo {α : Type} {k t i : Nat} {f : Nat → α} (h : ¬ (3 * t ≤ i ∧ i < 3 * t + k)) : zc_c k f t i = f i := if_neg h
theorem zc_in {α : Type} {k t i : Nat} {f : Nat → α} (h : 3 * t ≤ i ∧ i < 3 * t + k) : zc_c k f t i = f (120 + (i - 3 * t)) := if_pos h
theorem zc_0 {α : Type} {t : Nat} {f : Nat → α} : zc_c 0 f t = f := by
  funext i; exact if_neg (by omega)
theorem zc_u {k t : Nat} {f : Nat → Int32} {v : Int32} (ht : t < 40) (hk : k < 3) (hv : v = f (120 + k)) : upd (zc_c k f t) (3 * t + k) v = zc_c (k + 1) f t := by
  funext i
  by_cases q : i = 3 * t + k
  · rw [q, pk_us, zc_in (by omega), hv, show 3 * t + k - 3 * t = k by omega]
  · rw [pk_un q]
    by_cases z : 3 * t ≤ i ∧ i < 3 * t + k
    · rw [zc_in z, zc_in (by omega)]
    · rw [zc_lo z, zc_lo (by omega)]
theorem zc_H {k t M : Nat} {a : Nat → Int32} {f : Nat → Nat} (h : kn_H a f M) : kn_H (zc_c k a t) (zc_c k f t) M := by
  intro i
  by_cases z : 3 * t ≤ i ∧ i < 3 * t + k
  · rw [zc_in z, zc_in z]; exact h _
  · rw [zc_lo z, zc_lo z]; exact h i
theorem zc_hi {α : Type} {k t i : Nat} {f : Nat → α} (ht : t < 40) (hk : k ≤ 3) (hi : 120 ≤ i) : zc_c k f t i = f i := zc_lo (by omega)
def zc_us (sc : Nat → Nat) (m : Nat) (us : Nat → Int32) : Nat → (Nat → Int32)
  | 0 => us
  | k + 1 => if k < m then upd (zc_us sc m us k) (sc (120 + k)) 1 else zc_us sc m us k
theorem zc_us_v {sc : Nat → Nat} {m s : Nat} {us : Nat → Int32} (hu : kn_B us) : ∀ k, kn_B (zc_us sc m us k) ∧ (¬ zc_us sc m us k s = 0 ↔ (¬ us s = 0 ∨ ∃ j, j < k ∧ j < m ∧ sc (120 + j) = s))
  | 0 => ⟨hu, ⟨Or.inl, fun h => h.elim id (fun ⟨j, a, _⟩ => by omega)⟩⟩
  | k + 1 => by
    obtain ⟨i1, i2⟩ := zc_us_v (sc := sc) (m := m) (s := s) hu k
    by_cases z : k < m
    · have e : zc_us sc m us (k + 1) = upd (zc_us sc m us k) (sc (120 + k)) 1 := if_pos z
      rw [e]
      refine ⟨kn_Bu i1 (Or.inr rfl), ?_⟩
      by_cases q : s = sc (120 + k)
      · rw [q, pk_us]
        exact ⟨fun _ => Or.inr ⟨k, by omega, z, rfl⟩, fun _ => kn_10⟩
      · rw [pk_un q, i2]
        constructor
        · rintro (a | ⟨j, a, b, c⟩)
          · exact Or.inl a
          · exact Or.inr ⟨j, by omega, b, c⟩
        · rintro (a | ⟨j, a, b, c⟩)
          · exact Or.inl a
          · by_cases y : j = k
            · subst y; exact absurd c.symm q
            · exact Or.inr ⟨j, by omega, b, c⟩
    · have e : zc_us sc m us (k + 1) = zc_us sc m us k := if_neg z
      rw [e]
      refine ⟨i1, i2.trans ?_⟩
      constructor
      · rintro (a | ⟨j, a, b, c⟩)
        · exact Or.inl a
        · exact Or.inr ⟨j, by omega, b, c⟩
      · rintro (a | ⟨j, a, b, c⟩)
        · exact Or.inl a
        · exact Or.inr ⟨j, by omega, b, c⟩
section
variable {f_made f_blocks f_arrivals f_top f_many f_agains f_feeNow : Int32} {a_op a_number a_tokens a_timed a_stack a_ins a_outs a_fitting a_parent a_height a_work a_holds a_held a_rewardScript a_reward a_delivered a_arrival a_right a_wrong a_chain a_born a_spent a_since a_row a_fees a_taker a_again a_before : Nat → Int32} {oP tk ic ni nu sc rs nh hd pa he : Nat → Nat} {md bk : Nat} {ci ca cb cm cs us : Nat → Int32} {am : Nat → Nat}
theorem xx_mk74 {post : Int32 → SX → Prop} {t m : Nat} (ht : t < 40) (hm : m < 4) (Hi : kn_H ci ic 152) (Hm : kn_H cm am 1001) (Hs : kn_H cs sc 8) (ho : a_outs t = nI m)
    (hp : post (nI t) (f_made, f_blocks, f_arrivals, f_top, f_many, f_agains, f_feeNow, a_op, a_number, a_tokens, zc_us sc m us 3, a_timed, a_stack, zc_c 3 ci t, zc_c 3 ca t, zc_c 3 cb t, upd a_ins 40 0, zc_c 3 cm t, zc_c 3 cs t, upd a_outs 40 0, a_fitting, a_parent, a_height, a_work, a_holds, a_held, a_rewardScript, a_reward, a_delivered, a_arrival, a_right, a_wrong, a_chain, a_born, a_spent, a_since, a_row, a_fees, a_taker, a_again, a_before)) :
    ∀ (d k n : Nat), k + d = 3 → d < n → wX_make_74 post (nI t) f_made f_blocks f_arrivals f_top f_many f_agains f_feeNow n (nI k) a_op a_number a_tokens (zc_us sc m us k) a_timed a_stack (zc_c k ci t) (zc_c k ca t) (zc_c k cb t) a_ins (zc_c k cm t) (zc_c k cs t) a_outs a_fitting a_parent a_height a_work a_holds a_held a_rewardScript a_reward a_delivered a_arrival a_right a_wrong a_chain a_born a_spent a_since a_row a_fees a_taker a_again a_before := by
  intro d
  induction d with
  | zero =>
    intro k n e hn
    obtain ⟨n, rfl⟩ : ∃ n', n = n' + 1 := ⟨n - 1, by omega⟩
    have ek : k = 3 := by omega
    subst ek
    exact pk_le 3 3 (fun _ => nm_r (e' := upd a_ins 40 0) (by rw [kn_vb 0]; rfl) (nm_r (e' := upd a_outs 40 0) (by rw [kn_vb 0]; rfl) hp)) (fun z => by omega)
  | succ d ih =>
    intro k n e hn
    obtain ⟨n, rfl⟩ : ∃ n', n = n' + 1 := ⟨n - 1, by omega⟩
    have e1 : 120 + nI k = nI (120 + k) := nI_add 120 k
    have e2 : 3 * nI t + nI k = nI (3 * t + k) := by rw [kn_m3, nI_add]
    have i1 : vp_in (120 + nI k) 123 := pk_in (120 + k) 123 (by omega) e1
    have i2 : vp_in (3 * nI t + nI k) 123 := pk_in (3 * t + k) 123 (by omega) e2
    have c1 : (120 + nI k).toNatClampNeg = 120 + k := pk_cl (120 + k) e1
    have c2 : (3 * nI t + nI k).toNatClampNeg = 3 * t + k := pk_cl (3 * t + k) e2
    have vi := kn_l Hi (120 + k)
    have vm := kn_l Hm (120 + k)
    have vs := kn_l Hs (120 + k)
    have go := ih (k + 1) n (by omega) (by omega)
    refine pk_le 3 k (fun z => by omega) (fun _ => ?_)
    refine And.intro i1 (And.intro i2 (nm_r (e' := zc_c (k + 1) ci t) (by rw [c1, c2, zc_hi ht (by omega) (by omega), kn_e Hi, kn_vs (ic (120 + k))]; exact zc_u ht (by omega) (kn_e Hi _).symm) ?_))
    refine And.intro i1 (And.intro i2 (nm_r (e' := zc_c (k + 1) ca t) (by rw [c1, c2, zc_hi ht (by omega) (by omega)]; exact zc_u ht (by omega) rfl) ?_))
    refine And.intro i1 (And.intro i2 (nm_r (e' := zc_c (k + 1) cb t) (by rw [c1, c2, zc_hi ht (by omega) (by omega)]; exact zc_u ht (by omega) rfl) ?_))
    refine And.intro i1 (And.intro i2 (nm_r (e' := zc_c (k + 1) cm t) (by rw [c1, c2, zc_hi ht (by omega) (by omega), kn_e Hm, kn_vs (am (120 + k))]; exact zc_u ht (by omega) (kn_e Hm _).symm) ?_))
    refine And.intro i1 (And.intro i2 (nm_r (e' := zc_c (k + 1) cs t) (by rw [c1, c2, zc_hi ht (by omega) (by omega), kn_e Hs, kn_vb (sc (120 + k))]; exact zc_u ht (by omega) (kn_e Hs _).symm) ?_))
    have eo : a_outs (nI t).toNatClampNeg = nI m := by rw [nI_clamp (by omega)]; exact ho
    have es : zc_c (k + 1) cs t (120 + nI k).toNatClampNeg = nI (sc (120 + k)) := by rw [c1, zc_hi ht (by omega) (by omega)]; exact kn_e Hs _
    refine And.intro (pk_in t 41 (by omega)) (pk_le m k (fun z => ?_) (fun z => And.intro i1 (And.intro (pk_in (sc (120 + k)) 8 vs es) (nm_r (e' := zc_us sc m us (k + 1)) ?_ (nm_r (nI_1 k) go)))) eo)
    · have e : zc_us sc m us (k + 1) = zc_us sc m us k := if_neg (by omega)
      rw [e] at go
      exact nm_r (nI_1 k) go
    · rw [kn_uv (sc (120 + k)) kn_v1 es]
      exact (if_pos z).symm
end
section
variable {g_blocks g_arrivals g_tip g_pooled g_chainLength : Int32} {b_op b_arg b_length b_ins b_outs b_parent b_work b_rewardLock b_height b_many b_holds b_delivered b_arrived b_pool b_chain b_from b_worth b_within b_spent b_stack b_again b_chosen : Nat → Int32} {ci ca cb cm cs : Nat → Int32}
theorem yy_mk68 {post : Int32 → SY → Prop} {t : Nat} (ht : t < 40)
    (hp : post (nI t) (nI (t + 1), g_blocks, g_arrivals, g_tip, g_pooled, g_chainLength, b_op, b_arg, b_length, upd b_ins 40 0, zc_c 3 ci t, zc_c 3 ca t, zc_c 3 cb t, upd b_outs 40 0, zc_c 3 cm t, zc_c 3 cs t, b_parent, b_work, b_rewardLock, b_height, b_many, b_holds, b_delivered, b_arrived, b_pool, b_chain, b_from, b_worth, b_within, b_spent, b_stack, b_again, b_chosen)) :
    ∀ (d k n : Nat), k + d = 3 → d < n → wY_make_68 post (nI t) g_blocks g_arrivals g_tip g_pooled g_chainLength n (nI k) b_op b_arg b_length b_ins (zc_c k ci t) (zc_c k ca t) (zc_c k cb t) b_outs (zc_c k cm t) (zc_c k cs t) b_parent b_work b_rewardLock b_height b_many b_holds b_delivered b_arrived b_pool b_chain b_from b_worth b_within b_spent b_stack b_again b_chosen := by
  intro d
  induction d with
  | zero =>
    intro k n e hn
    obtain ⟨n, rfl⟩ : ∃ n', n = n' + 1 := ⟨n - 1, by omega⟩
    have ek : k = 3 := by omega
    subst ek
    refine pk_le 3 3 (fun _ => nm_e (nm_e (nm_r (nI_1 t) ?_))) (fun z => by omega)
    rw [nI_pred]; exact hp
  | succ d ih =>
    intro k n e hn
    obtain ⟨n, rfl⟩ : ∃ n', n = n' + 1 := ⟨n - 1, by omega⟩
    have e1 : 120 + nI k = nI (120 + k) := nI_add 120 k
    have e2 : 3 * nI t + nI k = nI (3 * t + k) := by rw [kn_m3, nI_add]
    have i1 : vp_in (120 + nI k) 123 := pk_in (120 + k) 123 (by omega) e1
    have i2 : vp_in (3 * nI t + nI k) 123 := pk_in (3 * t + k) 123 (by omega) e2
    have c1 : (120 + nI k).toNatClampNeg = 120 + k := pk_cl (120 + k) e1
    have c2 : (3 * nI t + nI k).toNatClampNeg = 3 * t + k := pk_cl (3 * t + k) e2
    have go := ih (k + 1) n (by omega) (by omega)
    have st : ∀ f : Nat → Int32, upd (zc_c k f t) (3 * nI t + nI k).toNatClampNeg (zc_c k f t (120 + nI k).toNatClampNeg) = zc_c (k + 1) f t := fun f => by
      rw [c1, c2, zc_hi ht (by omega) (by omega)]; exact zc_u ht (by omega) rfl
    exact pk_le 3 k (fun z => by omega) (fun _ => And.intro i1 (And.intro i2 (nm_r (st ci) (And.intro i1 (And.intro i2 (nm_r (st ca) (And.intro i1 (And.intro i2 (nm_r (st cb) (And.intro i1 (And.intro i2 (nm_r (st cm) (And.intro i1 (And.intro i2 (nm_r (st cs) (nm_r (nI_1 k) go))))))))))))))))
end
section
variable {md bk an tp mn : Nat} {oP tk ic ni nu sc rs nh hd pa he wk ar ch row : Nat → Nat} {K : kc_K} {fe cl : Int32} {a_op a_number a_tokens a_used a_timed a_inCoin a_inA a_inB a_ins a_amount a_script a_outs a_parent a_height a_work a_holds a_held a_rewardScript a_delivered st fi rw rg wr cn ra fs tr ag bf aa b_parent b_work ba yc fr w wi sp ys ya yo : Nat → Int32}
theorem zz_make (hm : md < 40) (N : kd_N oP tk ic ni nu sc rs nh hd pa he md bk) (D : kx_D a_op a_number a_tokens a_timed a_inCoin a_ins a_outs a_script a_rewardScript a_holds a_held a_parent a_height oP tk ic ni nu sc rs nh hd pa he) (S : zr_S md bk oP tk ic ni nu sc rs nh hd a_used a_timed a_amount a_delivered) (Z : zr_D (kc_W ic ni nu a_amount (kf_fit oP a_number tk ic a_inA a_inB sc rs) nh hd pa he) (kf_C md ni a_timed (fun i => kx_s sc rs (ic i)) (kf_fit oP a_number tk ic a_inA a_inB sc rs)) bk md pa he ic ni nu a_amount tp mn ch row K fi rw rg wr cn ra fs tr fr wi sp) :
    kd_N oP tk (zc_c 3 ic md) (kn_u (kn_u ni md (ni 40)) 40 0) (kn_u (kn_u nu md (nu 40)) 40 0) (zc_c 3 sc md) rs nh hd pa he (md + 1) bk ∧
    kx_D a_op a_number a_tokens a_timed (zc_c 3 a_inCoin md) (upd (upd a_ins md (nI (ni 40))) 40 0) (upd (upd a_outs md (nI (nu 40))) 40 0) (zc_c 3 a_script md) a_rewardScript a_holds a_held a_parent a_height oP tk (zc_c 3 ic md) (kn_u (kn_u ni md (ni 40)) 40 0) (kn_u (kn_u nu md (nu 40)) 40 0) (zc_c 3 sc md) rs nh hd pa he ∧
    zr_S (md + 1) bk oP tk (zc_c 3 ic md) (kn_u (kn_u ni md (ni 40)) 40 0) (kn_u (kn_u nu md (nu 40)) 40 0) (zc_c 3 sc md) rs nh hd (zc_us sc (nu 40) a_used 3) a_timed (zc_c 3 a_amount md) a_delivered ∧
    zr_D (kc_W (zc_c 3 ic md) (kn_u (kn_u ni md (ni 40)) 40 0) (kn_u (kn_u nu md (nu 40)) 40 0) (zc_c 3 a_amount md) (kf_fit oP a_number tk (zc_c 3 ic md) (zc_c 3 a_inA md) (zc_c 3 a_inB md) (zc_c 3 sc md) rs) nh hd pa he) (kf_C (md + 1) (kn_u (kn_u ni md (ni 40)) 40 0) a_timed (fun i => kx_s (zc_c 3 sc md) rs (zc_c 3 ic md i)) (kf_fit oP a_number tk (zc_c 3 ic md) (zc_c 3 a_inA md) (zc_c 3 a_inB md) (zc_c 3 sc md) rs)) bk (md + 1) pa he (zc_c 3 ic md) (kn_u (kn_u ni md (ni 40)) 40 0) (kn_u (kn_u nu md (nu 40)) 40 0) (zc_c 3 a_amount md) tp mn ch row K fi rw rg wr cn ra fs tr fr wi sp := by
  have il : ∀ t, ni t < 4 := kn_l (dx_ni D)
  have ul : ∀ t, nu t < 4 := kn_l (dx_nu D)
  have lo : ∀ {α : Type} (f : Nat → α) (i : Nat), i < 3 * md → zc_c 3 f md i = f i := fun f i h => zc_lo (by omega)
  have hi : ∀ {α : Type} (f : Nat → α) (i : Nat), 3 * md ≤ i → i < 3 * md + 3 → zc_c 3 f md i = f (120 + (i - 3 * md)) := fun f i h1 h2 => zc_in ⟨h1, h2⟩
  have uo : ∀ (f : Nat → Nat) (t : Nat), t < md → kn_u (kn_u f md (f 40)) 40 0 t = f t := fun f t ht => by rw [kn_un (by omega), kn_un (by omega)]
  have um : ∀ (f : Nat → Nat), kn_u (kn_u f md (f 40)) 40 0 md = f 40 := fun f => by rw [kn_un (by omega), kn_us]
  have u4 : ∀ (f : Nat → Nat), kn_u (kn_u f md (f 40)) 40 0 40 = 0 := fun f => kn_us
  have ub : ∀ (f : Nat → Nat) (M : Nat), 0 < M → (∀ k, f k < M) → ∀ k, kn_u (kn_u f md (f 40)) 40 0 k < M := fun f M h0 h k => by
    by_cases q : k = 40
    · rw [q, kn_us]; exact h0
    · rw [kn_un q]
      by_cases q2 : k = md
      · rw [q2, kn_us]; exact h 40
      · rw [kn_un q2]; exact h k
  have zb : ∀ (f : Nat → Nat) (M : Nat), (∀ k, f k < M) → ∀ k, zc_c 3 f md k < M := fun f M h k => by
    unfold zc_c; split
    · exact h _
    · exact h k
  refine ⟨?_, ?_, ?_, ?_⟩
  · obtain ⟨n1, n2, n3, n4, n5, n6, n7, n8, n9, n10, n11, n12, n13, n14⟩ := N
    refine ⟨n1, n2, zb ic _ n3, ub ni _ (by omega) n4, ub nu _ (by omega) n5, zb sc _ n6, n7, n8, n9, by omega, n11, fun b hb k hk => by have := n12 b hb k hk; omega, n13, fun t ht i j h1 h2 h3 h4 e => ?_⟩
    by_cases q : t = md
    · subst q
      rw [um] at h2 h4
      have := il 40
      rw [hi ic i h1 (by omega), hi ic j h3 (by omega)] at e
      have := S.2.2.2.2.2.1 _ _ (by omega) (by omega) (by omega) (by omega) e
      omega
    · rw [uo ni t (by omega)] at h2 h4
      have := il t
      rw [lo ic i (by omega), lo ic j (by omega)] at e
      exact n14 t (by omega) i j h1 h2 h3 h4 e
  · obtain ⟨x1, x2, x3, x4, x5, x6, x7, x8, x9⟩ := D
    exact ⟨x1, x2, x3, x4, zc_H x5, kn_upd (kn_upd x6 rfl (il 40)) nI_0.symm (by omega), kn_upd (kn_upd x7 rfl (ul 40)) nI_0.symm (by omega), zc_H x8, x9⟩
  · obtain ⟨s1, s2, ⟨am, s3⟩, s4, s5, s6, s7, s8, s9⟩ := S
    refine ⟨(zc_us_v (s := 0) s1 3).1, s2, ⟨zc_c 3 am md, zc_H s3⟩, fun x hx => ?_, fun t ht i h1 h2 => ?_, fun i j h1 h2 => ?_, fun k hk => ?_, s8, s9⟩
    · rw [(zc_us_v (s := x) s1 3).2, s4 x hx]
      have u40 := ul 40
      constructor
      · rintro ((q | ⟨t, ht, o, o1, o2, o3⟩) | ⟨j, j1, j2, j3⟩)
        · exact Or.inl q
        · have := ul t
          exact Or.inr ⟨t, by omega, o, o1, by rw [uo nu t ht]; exact o2, by rw [lo sc o (by omega)]; exact o3⟩
        · refine Or.inr ⟨md, by omega, 3 * md + j, by omega, by rw [um]; omega, ?_⟩
          rw [hi sc _ (by omega) (by omega), show 3 * md + j - 3 * md = j by omega]; exact j3
      · rintro (q | ⟨t, ht, o, o1, o2, o3⟩)
        · exact Or.inl (Or.inl q)
        · by_cases q : t = md
          · subst q
            rw [um] at o2
            rw [hi sc o o1 (by omega)] at o3
            exact Or.inr ⟨o - 3 * t, by omega, by omega, o3⟩
          · rw [uo nu t (by omega)] at o2
            have := ul t
            rw [lo sc o (by omega)] at o3
            exact Or.inl (Or.inr ⟨t, by omega, o, o1, o2, o3⟩)
    · have t40 : t ≠ 40 := by
        intro q; subst q; rw [u4] at h2; omega
      have ht : t < md + 1 := ht.resolve_right t40
      have key : ∀ c, ((c < 120 → c / 3 < md ∧ c % 3 < nu (c / 3)) ∧ (120 ≤ c → c - 120 < bk)) → ((c < 120 → c / 3 < md + 1 ∧ c % 3 < kn_u (kn_u nu md (nu 40)) 40 0 (c / 3)) ∧ (120 ≤ c → c - 120 < bk)) := fun c h => ⟨fun z => ⟨by have := (h.1 z).1; omega, by rw [uo nu _ (h.1 z).1]; exact (h.1 z).2⟩, h.2⟩
      by_cases q : t = md
      · subst q
        rw [um] at h2
        have := il 40
        rw [hi ic i h1 (by omega)]
        exact key _ (s5 40 (Or.inr rfl) (120 + (i - 3 * t)) (by omega) (by omega))
      · rw [uo ni t (by omega)] at h2
        have := il t
        rw [lo ic i (by omega)]
        exact key _ (s5 t (Or.inl (by omega)) i h1 h2)
    · rw [u4] at h2; omega
    · have := s7 k hk; omega
  · refine zr_D_ext N (by omega) (Nat.le_refl _) (fun t ht => ⟨uo ni t ht, uo nu t ht, fun i h1 h2 => ⟨lo ic i (by have := il t; omega), fun g h => ?_⟩, fun o h1 h2 => lo a_amount o (by have := ul t; omega)⟩) (fun b hb => ⟨rfl, rfl, rfl, fun _ _ => rfl⟩) (fun c hc => lo a_amount c hc) (fun t ht i h1 h2 => ⟨?_, fun z => zs_lt S ht h1 h2 z⟩) Z
    · have i3 : i < 3 * md := by have := il t; omega
      unfold kf_fit
      rw [lo ic i i3, lo a_inA i i3, lo a_inB i i3]
      have : kx_s (zc_c 3 sc md) rs (ic i) = kx_s sc rs (ic i) := by
        unfold kx_s
        by_cases q : ic i < 120
        · rw [if_pos q, if_pos q, lo sc _ (zs_lt S ht h1 h2 q)]
        · rw [if_neg q, if_neg q]
      rw [this]
    · have i3 : i < 3 * md := by have := il t; omega
      rw [lo ic i i3]
      have : kx_s (zc_c 3 sc md) rs (ic i) = kx_s sc rs (ic i) := by
        unfold kx_s
        by_cases q : ic i < 120
        · rw [if_pos q, if_pos q, lo sc _ (zs_lt S ht h1 h2 q)]
        · rw [if_neg q, if_neg q]
      rw [this]
end
theorem i_vc_make {k : Nat} {u : SX} {v : SY} (I : i_Rel k u v) (hk : k + 4 ≤ 2048) : wpX_make (fun r u' => wpY_make (fun r' v' => r' = r ∧ i_Rel (k + 4) u' v') v) u := by
  refine I (fun u v => wpX_make (fun r u' => wpY_make (fun r' v' => r' = r ∧ i_Rel (k + 4) u' v') v) u) ?_
  clear I u v
  intro md bk an tp mn oP tk ic ni nu sc rs nh hd pa he wk ar ch row K fe cl a_op a_number a_tokens a_used a_timed a_inCoin a_inA a_inB a_ins a_amount a_script a_outs a_parent a_height a_work a_holds a_held a_rewardScript a_delivered st fi rw rg wr cn ra fs tr ag bf aa b_parent b_work ba yc fr w wi sp ys ya yo N D S B Z
  have m40 := kd_md N
  have R0 : i_Rel (k + 4) (nI md, nI bk, nI an, nI tp, nI mn, 0, fe, a_op, a_number, a_tokens, a_used, a_timed, st, a_inCoin, a_inA, a_inB, a_ins, a_amount, a_script, a_outs, fi, a_parent, a_height, a_work, a_holds, a_held, a_rewardScript, rw, a_delivered, aa, rg, wr, cn, K.1, K.2.1, K.2.2.1, ra, fs, tr, ag, bf) (nI md, nI bk, nI an, nI (ch tp), nI mn, cl, a_op, a_number, a_tokens, a_ins, a_inCoin, a_inA, a_inB, a_outs, a_amount, a_script, b_parent, b_work, a_rewardScript, a_height, a_holds, a_held, a_delivered, ba, ra, yc, fr, w, wi, sp, ys, ya, yo) := fun P h => h md bk an tp mn oP tk ic ni nu sc rs nh hd pa he wk ar ch row K fe cl a_op a_number a_tokens a_used a_timed a_inCoin a_inA a_inB a_ins a_amount a_script a_outs a_parent a_height a_work a_holds a_held a_rewardScript a_delivered st fi rw rg wr cn ra fs tr ag bf aa b_parent b_work ba yc fr w wi sp ys ya yo N D S B Z
  have ei : a_ins 40 = nI (ni 40) := kn_e (dx_ni D) 40
  have eo : a_outs 40 = nI (nu 40) := kn_e (dx_nu D) 40
  have il := kn_l (dx_ni D) 40
  have ol := kn_l (dx_nu D) 40
  refine br_c (fun z1 => br_t z1 ⟨rfl, R0⟩) (fun z1 => br_c (fun z2 => br_f z1 (br_t z2 ⟨rfl, R0⟩)) (fun z2 => pk_eq md 40 (fun z3 => br_f z1 (br_f z2 ?_)) (fun z3 => ?_)))
  · exact pk_eq md 40 (fun _ => ⟨rfl, R0⟩) (fun q => absurd z3 q)
  · obtain ⟨am, Hm⟩ := S.2.2.1
    have i41 : vp_in (nI md) 41 := pk_in md 41 (by omega)
    obtain ⟨N', D', S', Z'⟩ := zz_make (show md < 40 by omega) N D S Z
    refine nm_r (nI_1 md) (And.intro i41 (nm_r (e' := upd a_ins md (nI (ni 40))) (by rw [ei, kn_vb (ni 40), kn_ux md]) (And.intro i41 (nm_r (e' := upd a_outs md (nI (nu 40))) (by rw [eo, kn_vb (nu 40), kn_ux md]) ⟨4, ?_⟩))))
    have X := xx_mk74 (f_made := nI (md + 1)) (f_blocks := nI bk) (f_arrivals := nI an) (f_top := nI tp) (f_many := nI mn) (f_agains := 0) (f_feeNow := fe) (a_op := a_op) (a_number := a_number) (a_tokens := a_tokens) (a_timed := a_timed) (a_stack := st) (a_ins := upd a_ins md (nI (ni 40))) (a_outs := upd a_outs md (nI (nu 40))) (a_fitting := fi) (a_parent := a_parent) (a_height := a_height) (a_work := a_work) (a_holds := a_holds) (a_held := a_held) (a_rewardScript := a_rewardScript) (a_reward := rw) (a_delivered := a_delivered) (a_arrival := aa) (a_right := rg) (a_wrong := wr) (a_chain := cn) (a_born := K.1) (a_spent := K.2.1) (a_since := K.2.2.1) (a_row := ra) (a_fees := fs) (a_taker := tr) (a_again := ag) (a_before := bf) (post := fun r u' => wpY_make (fun r' v' => r' = r ∧ i_Rel (k + 4) u' v') (nI md, nI bk, nI an, nI (ch tp), nI mn, cl, a_op, a_number, a_tokens, a_ins, a_inCoin, a_inA, a_inB, a_outs, a_amount, a_script, b_parent, b_work, a_rewardScript, a_height, a_holds, a_held, a_delivered, ba, ra, yc, fr, w, wi, sp, ys, ya, yo)) (ca := a_inA) (cb := a_inB) (us := a_used) (t := md) (m := nu 40) (by omega) ol (dx_ic D) Hm (dx_sc D) pk_us ?_ 3 0 4 (by omega) (by omega)
    · rw [zc_0, zc_0, zc_0, zc_0, zc_0] at X
      exact X
    · refine br_f z1 (br_f z2 (pk_eq md 40 (fun q => absurd q z3) (fun _ => And.intro i41 (nm_r (e' := upd a_ins md (nI (ni 40))) (by rw [ei, kn_ux md]) (And.intro i41 (nm_r (e' := upd a_outs md (nI (nu 40))) (by rw [eo, kn_ux md]) ⟨4, ?_⟩))))))
      have Y := yy_mk68 (g_blocks := nI bk) (g_arrivals := nI an) (g_tip := nI (ch tp)) (g_pooled := nI mn) (g_chainLength := cl) (b_op := a_op) (b_arg := a_number) (b_length := a_tokens) (b_ins := upd a_ins md (nI (ni 40))) (b_outs := upd a_outs md (nI (nu 40))) (b_parent := b_parent) (b_work := b_work) (b_rewardLock := a_rewardScript) (b_height := a_height) (b_many := a_holds) (b_holds := a_held) (b_delivered := a_delivered) (b_arrived := ba) (b_pool := ra) (b_chain := yc) (b_from := fr) (b_worth := w) (b_within := wi) (b_spent := sp) (b_stack := ys) (b_again := ya) (b_chosen := yo) (post := fun r' v' => r' = nI md ∧ i_Rel (k + 4) (nI (md + 1), nI bk, nI an, nI tp, nI mn, 0, fe, a_op, a_number, a_tokens, zc_us sc (nu 40) a_used 3, a_timed, st, zc_c 3 a_inCoin md, zc_c 3 a_inA md, zc_c 3 a_inB md, upd (upd a_ins md (nI (ni 40))) 40 0, zc_c 3 a_amount md, zc_c 3 a_script md, upd (upd a_outs md (nI (nu 40))) 40 0, fi, a_parent, a_height, a_work, a_holds, a_held, a_rewardScript, rw, a_delivered, aa, rg, wr, cn, K.1, K.2.1, K.2.2.1, ra, fs, tr, ag, bf) v') (ci := a_inCoin) (ca := a_inA) (cb := a_inB) (cm := a_amount) (cs := a_script) (t := md) (by omega) ⟨rfl, ?_⟩ 3 0 4 (by omega) (by omega)
      · rw [zc_0, zc_0, zc_0, zc_0, zc_0] at Y
        exact Y
      · exact fun P h => h (md + 1) bk an tp mn oP tk (zc_c 3 ic md) (kn_u (kn_u ni md (ni 40)) 40 0) (kn_u (kn_u nu md (nu 40)) 40 0) (zc_c 3 sc md) rs nh hd pa he wk ar ch row K fe cl a_op a_number a_tokens (zc_us sc (nu 40) a_used 3) a_timed (zc_c 3 a_inCoin md) (zc_c 3 a_inA md) (zc_c 3 a_inB md) (upd (upd a_ins md (nI (ni 40))) 40 0) (zc_c 3 a_amount md) (zc_c 3 a_script md) (upd (upd a_outs md (nI (nu 40))) 40 0) a_parent a_height a_work a_holds a_held a_rewardScript a_delivered st fi rw rg wr cn ra fs tr ag bf aa b_parent b_work ba yc fr w wi sp ys ya yo N' D' S' B Z'
end
section
/-! ===== a new block; mine ===== -/
section
variable {f_made f_arrivals f_top f_many f_agains f_feeNow : Int32} {a_op a_number a_tokens a_used a_timed a_stack a_inCoin a_inA a_inB a_ins a_amount a_script a_outs a_fitting a_parent a_height a_work a_holds a_held a_rewardScript a_reward a_delivered a_arrival a_right a_wrong a_chain a_born a_spent a_since a_row a_fees a_taker a_again a_before : Nat → Int32} {oP tk ic ni nu sc rs nh hd pa he : Nat → Nat} {md bk : Nat} {wk : Nat → Nat}
theorem xx_begin {post : Int32 → SX → Prop} {p x s : Nat} (hb : bk < 32) (hp : p < bk) (hx : x < 10) (hs : s < 8) (hh : he p + 1 < 32) (hw : wk p + x < 400) (D : kx_D a_op a_number a_tokens a_timed a_inCoin a_ins a_outs a_script a_rewardScript a_holds a_held a_parent a_height oP tk ic ni nu sc rs nh hd pa he) (Hw : kn_H a_work wk 400)
    (h : post (nI bk) (f_made, nI (bk + 1), f_arrivals, f_top, f_many, f_agains, f_feeNow, a_op, a_number, a_tokens, upd a_used s 1, a_timed, a_stack, a_inCoin, a_inA, a_inB, a_ins, a_amount, a_script, a_outs, a_fitting, upd a_parent bk (nI p), upd a_height bk (nI (he p + 1)), upd a_work bk (nI (wk p + x)), a_holds, a_held, upd a_rewardScript bk (nI s), a_reward, a_delivered, a_arrival, a_right, a_wrong, a_chain, a_born, a_spent, a_since, a_row, a_fees, a_taker, a_again, a_before)) : wpX_begin post (f_made, nI bk, f_arrivals, f_top, f_many, f_agains, f_feeNow, a_op, a_number, a_tokens, a_used, a_timed, a_stack, a_inCoin, a_inA, a_inB, a_ins, a_amount, a_script, a_outs, a_fitting, a_parent, a_height, a_work, a_holds, a_held, a_rewardScript, a_reward, a_delivered, a_arrival, a_right, a_wrong, a_chain, a_born, a_spent, a_since, a_row, a_fees, a_taker, a_again, a_before) (nI p) (nI x) (nI s) := by
  have ib : vp_in (nI bk) 32 := pk_in bk 32 hb
  have ip : vp_in (nI p) 32 := pk_in p 32 (by omega)
  have eh : a_height (nI p).toNatClampNeg + 1 = nI (he p + 1) := by rw [kn_at (dx_he D) p, nI_1]
  have ew : a_work (nI p).toNatClampNeg + nI x = nI (wk p + x) := by rw [kn_at Hw p, nI_add]
  exact nm_r (nI_1 bk) (And.intro ib (nm_r (kn_uv bk (kn_vb2 p)) (And.intro ip (And.intro ib (nm_r (kn_uv bk (kn_vb2 (he p + 1) eh)) (And.intro ip (And.intro ib (nm_r (kn_uv bk (kn_vs2 (wk p + x) ew)) (And.intro ib (nm_r (kn_uv bk (kn_vb2 s)) (And.intro (pk_in s 8 hs) (nm_r (kn_uv s kn_v1) h))))))))))))
end
section
variable {g_made g_arrivals g_tip g_pooled g_chainLength : Int32} {b_op b_arg b_length b_ins b_inCoin b_inA b_inB b_outs b_amount b_lock b_parent b_work b_rewardLock b_height b_many b_holds b_delivered b_arrived b_pool b_chain b_from b_worth b_within b_spent b_stack b_again b_chosen : Nat → Int32} {oP tk ic ni nu sc rs nh hd pa he : Nat → Nat} {md bk : Nat}
theorem yy_add {post : Int32 → SY → Prop} {p : Nat} {x s : Int32} (hb : bk < 32) (hp : p < bk) (D : ky_D b_op b_arg b_length b_inCoin b_ins b_outs b_lock b_rewardLock b_many b_holds b_parent b_height oP tk ic ni nu sc rs nh hd pa he)
    (h : post (nI bk) (g_made, nI (bk + 1), g_arrivals, g_tip, g_pooled, g_chainLength, b_op, b_arg, b_length, b_ins, b_inCoin, b_inA, b_inB, b_outs, b_amount, b_lock, upd b_parent bk (nI p), upd b_work bk x, upd b_rewardLock bk s, upd b_height bk (nI (he p + 1)), upd b_many bk 0, b_holds, b_delivered, b_arrived, b_pool, b_chain, b_from, b_worth, b_within, b_spent, b_stack, b_again, b_chosen)) : wpY_add post (g_made, nI bk, g_arrivals, g_tip, g_pooled, g_chainLength, b_op, b_arg, b_length, b_ins, b_inCoin, b_inA, b_inB, b_outs, b_amount, b_lock, b_parent, b_work, b_rewardLock, b_height, b_many, b_holds, b_delivered, b_arrived, b_pool, b_chain, b_from, b_worth, b_within, b_spent, b_stack, b_again, b_chosen) (nI p) x s := by
  have ib : vp_in (nI bk) 33 := pk_in bk 33 (by omega)
  have ip : vp_in (nI p) 33 := pk_in p 33 (by omega)
  exact And.intro ib (nm_r (kn_ux bk) (And.intro ib (nm_r (kn_ux bk) (And.intro ib (nm_r (kn_ux bk) (And.intro ip (And.intro ib (nm_r (e' := upd b_height bk (nI (he p + 1))) (by rw [kn_at (dy_he D) p, nI_1, kn_ux bk]) (And.intro ib (nm_r (kn_ux bk) (nm_r (nI_1 bk) h)))))))))))
end
section
variable {md bk an tp mn : Nat} {oP tk ic ni nu sc rs nh hd pa he wk ar ch row : Nat → Nat} {K : kc_K} {fe cl : Int32} {a_op a_number a_tokens a_used a_timed a_inCoin a_inA a_inB a_ins a_amount a_script a_outs a_parent a_height a_work a_holds a_held a_rewardScript a_delivered st fi rw rg wr cn ra fs tr ag bf aa b_parent b_work ba yc fr w wi sp ys ya yo : Nat → Int32}
/-- the data with one more block -/
theorem zz_new {p x s : Nat} {nh' hd' : Nat → Nat} {ah ad : Nat → Int32} (hb : bk < 32) (hp : p < bk) (hx : x < 10) (hs : s < 8) (N : kd_N oP tk ic ni nu sc rs nh hd pa he md bk) (D : kx_D a_op a_number a_tokens a_timed a_inCoin a_ins a_outs a_script a_rewardScript a_holds a_held a_parent a_height oP tk ic ni nu sc rs nh hd pa he) (S : zr_S md bk oP tk ic ni nu sc rs nh hd a_used a_timed a_amount a_delivered) (B : zr_B bk an pa wk ar a_parent a_work aa b_parent b_work ba) (Z : zr_D (kc_W ic ni nu a_amount (kf_fit oP a_number tk ic a_inA a_inB sc rs) nh hd pa he) (kf_C md ni a_timed (fun i => kx_s sc rs (ic i)) (kf_fit oP a_number tk ic a_inA a_inB sc rs)) bk md pa he ic ni nu a_amount tp mn ch row K fi rw rg wr cn ra fs tr fr wi sp)
    (h1 : ∀ b, b < bk → nh' b = nh b) (h2 : ∀ b, bk < b → b < 32 → nh' b = nh b) (h3 : ∀ k, k < nh' 32 → hd' (128 + k) < md) (h4 : ∀ k, k < nh' bk → hd' (4 * bk + k) < md) (h5 : ∀ b, b < bk → ∀ k, k < nh b → hd' (4 * b + k) = hd (4 * b + k)) (ha : kn_H ah nh' 5) (hd1 : kn_H ad hd' 40) :
    kd_N oP tk ic ni nu sc (kn_u rs bk s) nh' hd' (kn_u pa bk p) (kn_u he bk (he p + 1)) md (bk + 1) ∧
    kx_D a_op a_number a_tokens a_timed a_inCoin a_ins a_outs a_script (upd a_rewardScript bk (nI s)) ah ad (upd a_parent bk (nI p)) (upd a_height bk (nI (he p + 1))) oP tk ic ni nu sc (kn_u rs bk s) nh' hd' (kn_u pa bk p) (kn_u he bk (he p + 1)) ∧
    zr_S md (bk + 1) oP tk ic ni nu sc (kn_u rs bk s) nh' hd' (upd a_used s 1) a_timed a_amount a_delivered ∧
    zr_B (bk + 1) an (kn_u pa bk p) (kn_u wk bk (wk p + x)) ar (upd a_parent bk (nI p)) (upd a_work bk (nI (wk p + x))) aa (upd b_parent bk (nI p)) (upd b_work bk (nI x)) ba ∧
    zr_D (kc_W ic ni nu a_amount (kf_fit oP a_number tk ic a_inA a_inB sc (kn_u rs bk s)) nh' hd' (kn_u pa bk p) (kn_u he bk (he p + 1))) (kf_C md ni a_timed (fun i => kx_s sc (kn_u rs bk s) (ic i)) (kf_fit oP a_number tk ic a_inA a_inB sc (kn_u rs bk s))) (bk + 1) md (kn_u pa bk p) (kn_u he bk (he p + 1)) ic ni nu a_amount tp mn ch row K fi rw rg wr cn ra fs tr fr wi sp := by
  have T := kd_T N
  have hep : he p + 1 < 32 := by have := kc_T_h T (p + 1) p (by omega) hp; omega
  have lo : ∀ (f : Nat → Nat) (v b : Nat), b < bk → kn_u f bk v b = f b := fun f v b h => kn_un (by omega)
  have ks : ∀ t, t < md → ∀ i, 3 * t ≤ i → i < 3 * t + ni t → kx_s sc (kn_u rs bk s) (ic i) = kx_s sc rs (ic i) := fun t ht i a b => by
    unfold kx_s
    by_cases q : ic i < 120
    · rw [if_pos q, if_pos q]
    · rw [if_neg q, if_neg q, lo rs s _ ((S.2.2.2.2.1 t (Or.inl ht) i a b).2 (by omega))]
  refine ⟨?_, ?_, ?_, ?_, ?_⟩
  · obtain ⟨n1, n2, n3, n4, n5, n6, n7, n8, n9, n10, n11, n12, n13, n14⟩ := N
    refine ⟨n1, n2, n3, n4, n5, n6, fun k => ?_, fun k => (ha k).2, fun k => (hd1 k).2, n10, ⟨by omega, by omega, ?_, ?_, fun b b0 hb' => ?_⟩, fun b hb' k hk => ?_, ?_, n14⟩
    · by_cases q : k = bk
      · rw [q, kn_us]; exact hs
      · rw [kn_un q]; exact n7 k
    · rw [lo he _ 0 T.1]; exact T.2.2.1
    · rw [lo pa _ 0 T.1]; exact T.2.2.2.1
    · by_cases q : b = bk
      · rw [q, kn_us, kn_us, lo he _ p hp]; exact ⟨hp, rfl⟩
      · have a := T.2.2.2.2 b b0 (by omega)
        rw [lo pa _ b (by omega), lo he _ b (by omega), lo he _ (pa b) (by omega)]; exact a
    · by_cases q : b = bk
      · subst q; exact h4 k hk
      · rw [h1 b (by omega)] at hk
        rw [h5 b (by omega) k hk]; exact n12 b (by omega) k hk
    · rw [h1 0 T.1]; exact n13
  · obtain ⟨x1, x2, x3, x4, x5, x6, x7, x8, x9, x10, x11, x12, x13⟩ := D
    exact ⟨x1, x2, x3, x4, x5, x6, x7, x8, kn_upd x9 rfl hs, ha, hd1, kn_upd x12 rfl (by omega), kn_upd x13 rfl hep⟩
  · obtain ⟨s1, s2, s3, s4, s5, s6, s7, s8, s9⟩ := S
    refine ⟨kn_Bu s1 (Or.inr rfl), s2, s3, fun y hy => ?_, fun t ht i a b => ⟨(s5 t ht i a b).1, fun q => by have := (s5 t ht i a b).2 q; omega⟩, s6, h3, fun b a c => by rw [h2 b (by omega) c]; exact s8 b (by omega) c, fun b hb' => s9 b (by omega)⟩
    have e : (¬ upd a_used s 1 y = 0) ↔ (y = s ∨ ¬ a_used y = 0) := by
      by_cases q : y = s
      · rw [q, pk_us]; exact ⟨fun _ => Or.inl rfl, fun _ => kn_10⟩
      · rw [pk_un q]; exact ⟨Or.inr, fun h => h.resolve_left q⟩
    rw [e, s4 y hy]
    constructor
    · rintro (q | ⟨b, b1, b2⟩ | q)
      · exact Or.inl ⟨bk, by omega, by rw [kn_us, q]⟩
      · exact Or.inl ⟨b, by omega, by rw [lo rs s b b1]; exact b2⟩
      · exact Or.inr q
    · rintro (⟨b, b1, b2⟩ | q)
      · by_cases q : b = bk
        · rw [q, kn_us] at b2; exact Or.inl b2.symm
        · rw [lo rs s b (by omega)] at b2; exact Or.inr (Or.inl ⟨b, by omega, b2⟩)
      · exact Or.inr (Or.inr q)
  · obtain ⟨r1, r2, r3, r4, r5, r6, r7, r8, r9, r10, r11, r12⟩ := B
    have wp := r12 p hp
    refine ⟨?_, fun i hi => ?_, kn_upd r3 rfl (by omega), ⟨?_, fun b b0 hb' => ?_⟩, r5, r6, r7, fun b c hb' hc' hz e => ?_, r9, r10, fun b hb' => r11 b (by omega), fun b hb' => ?_⟩
    · rw [pk_un (by have := T.1; omega)]; exact r1
    · by_cases q : i = bk
      · rw [q, pk_us, pk_us]
      · rw [pk_un q, pk_un q]; exact r2 i hi
    · rw [pk_un (by have := T.1; omega), lo wk _ 0 T.1]; exact r4.1
    · by_cases q : b = bk
      · refine ⟨x, by rw [q, pk_us], ?_⟩
        rw [q, kn_us, kn_us, lo wk _ p hp]
      · obtain ⟨y, y1, y2⟩ := r4.2 b b0 (by omega)
        have a := T.2.2.2.2 b b0 (by omega)
        refine ⟨y, by rw [pk_un q]; exact y1, ?_⟩
        rw [lo pa _ b (by omega), lo wk _ b (by omega), lo wk _ (pa b) (by omega)]; exact y2
    · have z := r11 bk (Nat.le_refl _)
      by_cases q1 : b = bk
      · rw [q1] at hz; exact absurd z hz
      · by_cases q2 : c = bk
        · rw [q2, z] at e; exact absurd e hz
        · exact r8 b c (by omega) (by omega) hz e
    · by_cases q : b = bk
      · rw [q, kn_us]; omega
      · rw [lo wk _ b (by omega)]; exact r12 b (by omega)
  · refine zr_D_ext N (Nat.le_refl _) (by omega) (fun t ht => ⟨rfl, rfl, fun i a b => ⟨rfl, fun g h => ?_⟩, fun _ _ _ => rfl⟩) (fun b hb' => ⟨h1 b hb', lo pa _ b hb', lo he _ b hb', fun k hk => h5 b hb' k hk⟩) (fun _ _ => rfl) (fun t ht i a b => ⟨?_, fun z => zs_lt S ht a b z⟩) Z
    · unfold kf_fit; rw [ks t ht i a b]
    · rw [ks t ht i a b]
end
def zh_c {α : Type} (k : Nat) (f : Nat → α) (b : Nat) : Nat → α := fun i => if 4 * b ≤ i ∧ i < 4 * b + k then f (128 + (i - 4 * b)) else f i
theorem zh_lo {α : Type} {k b i : Nat} {f : Nat → α} (h : ¬ (4 * b ≤ i ∧ i < 4 * b + k)) : zh_c k f b i = f i := if_neg h
theorem zh_in {α : Type} {k b i : Nat} {f : Nat → α} (h : 4 * b ≤ i ∧ i < 4 * b + k) : zh_c k f b i = f (128 + (i - 4 * b)) := if_pos h
theorem zh_u {k b : Nat} {f : Nat → Int32} {v : Int32} (hb : b < 32) (hk : k < 4) (hv : v = f (128 + k)) : upd (zh_c k f b) (4 * b + k) v = zh_c (k + 1) f b := by
  funext i
  by_cases q : i = 4 * b + k
  · rw [q, pk_us, zh_in (by omega), hv, show 4 * b + k - 4 * b = k by omega]
  · rw [pk_un q]
    by_cases z : 4 * b ≤ i ∧ i < 4 * b + k
    · rw [zh_in z, zh_in (by omega)]
    · rw [zh_lo z, zh_lo (by omega)]
theorem zh_H {k b M : Nat} {a : Nat → Int32} {f : Nat → Nat} (h : kn_H a f M) : kn_H (zh_c k a b) (zh_c k f b) M := by
  intro i
  by_cases z : 4 * b ≤ i ∧ i < 4 * b + k
  · rw [zh_in z, zh_in z]; exact h _
  · rw [zh_lo z, zh_lo z]; exact h i
theorem zh_0 {α : Type} {b : Nat} {f : Nat → α} : zh_c 0 f b = f := by
  funext i; exact if_neg (by omega)
theorem zh_hi {α : Type} {k b i : Nat} {f : Nat → α} (hb : b < 32) (hk : k ≤ 4) (hi : 128 ≤ i) : zh_c k f b i = f i := zh_lo (by omega)
section
variable {f_made f_blocks f_arrivals f_top f_many f_agains f_feeNow : Int32} {a_op a_number a_tokens a_used a_timed a_stack a_inCoin a_inA a_inB a_ins a_amount a_script a_outs a_fitting a_parent a_height a_work a_holds a_rewardScript a_reward a_delivered a_arrival a_right a_wrong a_chain a_born a_spent a_since a_row a_fees a_taker a_again a_before : Nat → Int32} {oP tk ic ni nu sc rs nh hd pa he : Nat → Nat} {md bk : Nat} {hl : Nat → Int32}
theorem xx_mi71 {post : Int32 → SX → Prop} {b m : Nat} (hb : b < 32) (hm : m < 5) (h32 : a_holds 32 = nI m) (H : kn_H hl hd 40) (hp : post (nI b) (f_made, f_blocks, f_arrivals, f_top, f_many, f_agains, f_feeNow, a_op, a_number, a_tokens, a_used, a_timed, a_stack, a_inCoin, a_inA, a_inB, a_ins, a_amount, a_script, a_outs, a_fitting, a_parent, a_height, a_work, upd a_holds 32 0, zh_c m hl b, a_rewardScript, a_reward, a_delivered, a_arrival, a_right, a_wrong, a_chain, a_born, a_spent, a_since, a_row, a_fees, a_taker, a_again, a_before)) :
    ∀ (d k n : Nat), k + d = m → d < n → wX_mine_71 post (nI b) f_made f_blocks f_arrivals f_top f_many f_agains f_feeNow n (nI k) a_op a_number a_tokens a_used a_timed a_stack a_inCoin a_inA a_inB a_ins a_amount a_script a_outs a_fitting a_parent a_height a_work a_holds (zh_c k hl b) a_rewardScript a_reward a_delivered a_arrival a_right a_wrong a_chain a_born a_spent a_since a_row a_fees a_taker a_again a_before := by
  intro d
  induction d with
  | zero =>
    intro k n e hn
    obtain ⟨n, rfl⟩ : ∃ n', n = n' + 1 := ⟨n - 1, by omega⟩
    have ek : k = m := by omega
    subst ek
    exact pk_le k k (fun _ => nm_r (e' := upd a_holds 32 0) (by rw [kn_vb 0]; rfl) hp) (fun z => by omega) h32
  | succ d ih =>
    intro k n e hn
    obtain ⟨n, rfl⟩ : ∃ n', n = n' + 1 := ⟨n - 1, by omega⟩
    have e1 : 128 + nI k = nI (128 + k) := nI_add 128 k
    have e2 : 4 * nI b + nI k = nI (4 * b + k) := by rw [kn_m4, nI_add]
    have vl := kn_l H (128 + k)
    refine pk_le m k (fun z => by omega) (fun _ => And.intro (pk_in (128 + k) 132 (by omega) e1) (And.intro (pk_in (4 * b + k) 132 (by omega) e2) (nm_r (e' := zh_c (k + 1) hl b) ?_ (nm_r (nI_1 k) (ih (k + 1) n (by omega) (by omega)))))) h32
    rw [pk_cl (128 + k) e1, zh_hi hb (by omega) (by omega), kn_e H, kn_vb (hd (128 + k)), pk_cl (4 * b + k) e2]
    exact zh_u hb (by omega) (kn_e H _).symm
end
section
variable {g_made g_blocks g_arrivals g_tip g_pooled g_chainLength : Int32} {b_op b_arg b_length b_ins b_inCoin b_inA b_inB b_outs b_amount b_lock b_parent b_work b_rewardLock b_height b_many b_delivered b_arrived b_pool b_chain b_from b_worth b_within b_spent b_stack b_again b_chosen : Nat → Int32} {hl : Nat → Int32}
theorem yy_mi57 {post : Int32 → SY → Prop} {b m : Nat} (hb : b < 32) (hm : m < 5) (h32 : b_many 32 = nI m) (hp : post (nI b) (g_made, g_blocks, g_arrivals, g_tip, g_pooled, g_chainLength, b_op, b_arg, b_length, b_ins, b_inCoin, b_inA, b_inB, b_outs, b_amount, b_lock, b_parent, b_work, b_rewardLock, b_height, upd (upd b_many b (nI m)) 32 0, zh_c m hl b, b_delivered, b_arrived, b_pool, b_chain, b_from, b_worth, b_within, b_spent, b_stack, b_again, b_chosen)) :
    ∀ (d k n : Nat), k + d = m → d < n → wY_mine_57 post (nI b) g_made g_blocks g_arrivals g_tip g_pooled g_chainLength n (nI k) b_op b_arg b_length b_ins b_inCoin b_inA b_inB b_outs b_amount b_lock b_parent b_work b_rewardLock b_height b_many (zh_c k hl b) b_delivered b_arrived b_pool b_chain b_from b_worth b_within b_spent b_stack b_again b_chosen := by
  intro d
  induction d with
  | zero =>
    intro k n e hn
    obtain ⟨n, rfl⟩ : ∃ n', n = n' + 1 := ⟨n - 1, by omega⟩
    have ek : k = m := by omega
    subst ek
    exact pk_le k k (fun _ => And.intro (pk_in b 33 (by omega)) (nm_r (kn_uv b h32) (nm_e hp))) (fun z => by omega) h32
  | succ d ih =>
    intro k n e hn
    obtain ⟨n, rfl⟩ : ∃ n', n = n' + 1 := ⟨n - 1, by omega⟩
    have e1 : 128 + nI k = nI (128 + k) := nI_add 128 k
    have e2 : 4 * nI b + nI k = nI (4 * b + k) := by rw [kn_m4, nI_add]
    refine pk_le m k (fun z => by omega) (fun _ => And.intro (pk_in (128 + k) 132 (by omega) e1) (And.intro (pk_in (4 * b + k) 132 (by omega) e2) (nm_r (e' := zh_c (k + 1) hl b) ?_ (nm_r (nI_1 k) (ih (k + 1) n (by omega) (by omega)))))) h32
    rw [pk_cl (128 + k) e1, zh_hi hb (by omega) (by omega), pk_cl (4 * b + k) e2]
    exact zh_u hb (by omega) rfl
end
theorem i_vc_mine {k : Nat} {u : SX} {v : SY} (I : i_Rel k u v) (hk : k + 4 ≤ 2048) (v1 : Int32) (v2 : Int32) (v3 : Int32) : wpX_mine (fun r u' => wpY_mine (fun r' v' => r' = r ∧ i_Rel (k + 4) u' v') v v1 v2 v3) u v1 v2 v3 := by
  refine I (fun u v => wpX_mine (fun r u' => wpY_mine (fun r' v' => r' = r ∧ i_Rel (k + 4) u' v') v v1 v2 v3) u v1 v2 v3) ?_
  clear I u v
  intro md bk an tp mn oP tk ic ni nu sc rs nh hd pa he wk ar ch row K fe cl a_op a_number a_tokens a_used a_timed a_inCoin a_inA a_inB a_ins a_amount a_script a_outs a_parent a_height a_work a_holds a_held a_rewardScript a_delivered st fi rw rg wr cn ra fs tr ag bf aa b_parent b_work ba yc fr w wi sp ys ya yo N D S B Z
  have b32 := kd_bk N
  have T := kd_T N
  have DY := dx_dy D B.1 B.2.1
  have R0 : i_Rel (k + 4) (nI md, nI bk, nI an, nI tp, nI mn, 0, fe, a_op, a_number, a_tokens, a_used, a_timed, st, a_inCoin, a_inA, a_inB, a_ins, a_amount, a_script, a_outs, fi, a_parent, a_height, a_work, a_holds, a_held, a_rewardScript, rw, a_delivered, aa, rg, wr, cn, K.1, K.2.1, K.2.2.1, ra, fs, tr, ag, bf) (nI md, nI bk, nI an, nI (ch tp), nI mn, cl, a_op, a_number, a_tokens, a_ins, a_inCoin, a_inA, a_inB, a_outs, a_amount, a_script, b_parent, b_work, a_rewardScript, a_height, a_holds, a_held, a_delivered, ba, ra, yc, fr, w, wi, sp, ys, ya, yo) := fun P h => h md bk an tp mn oP tk ic ni nu sc rs nh hd pa he wk ar ch row K fe cl a_op a_number a_tokens a_used a_timed a_inCoin a_inA a_inB a_ins a_amount a_script a_outs a_parent a_height a_work a_holds a_held a_rewardScript a_delivered st fi rw rg wr cn ra fs tr ag bf aa b_parent b_work ba yc fr w wi sp ys ya yo N D S B Z
  have bad1 : (v1 < 0 ∨ nI bk ≤ v1) → wpX_mine (fun r u' => wpY_mine (fun r' v' => r' = r ∧ i_Rel (k + 4) u' v') (nI md, nI bk, nI an, nI (ch tp), nI mn, cl, a_op, a_number, a_tokens, a_ins, a_inCoin, a_inA, a_inB, a_outs, a_amount, a_script, b_parent, b_work, a_rewardScript, a_height, a_holds, a_held, a_delivered, ba, ra, yc, fr, w, wi, sp, ys, ya, yo) v1 v2 v3) (nI md, nI bk, nI an, nI tp, nI mn, 0, fe, a_op, a_number, a_tokens, a_used, a_timed, st, a_inCoin, a_inA, a_inB, a_ins, a_amount, a_script, a_outs, fi, a_parent, a_height, a_work, a_holds, a_held, a_rewardScript, rw, a_delivered, aa, rg, wr, cn, K.1, K.2.1, K.2.2.1, ra, fs, tr, ag, bf) v1 v2 v3 := by
    intro q
    unfold wpX_mine
    refine xx_no0 q ?_
    refine br_f kn_10 ?_
    unfold wpY_mine
    refine yy_in0 q ?_
    exact br_t rfl ⟨rfl, R0⟩
  rcases pk_ix v1 (n := bk) (by omega) with q | q | ⟨p, hp, rfl⟩
  · exact bad1 (Or.inl q)
  · exact bad1 (Or.inr q)
  unfold wpX_mine
  refine xx_no1 hp (by omega) ?_
  have Y1 : ∀ post : Int32 → SY → Prop, ((v2 < 1 → post (-1) (nI md, nI bk, nI an, nI (ch tp), nI mn, cl, a_op, a_number, a_tokens, a_ins, a_inCoin, a_inA, a_inB, a_outs, a_amount, a_script, b_parent, b_work, a_rewardScript, a_height, a_holds, a_held, a_delivered, ba, ra, yc, fr, w, wi, sp, ys, ya, yo)) ∧ (¬ v2 < 1 → ((9 < v2 → post (-1) (nI md, nI bk, nI an, nI (ch tp), nI mn, cl, a_op, a_number, a_tokens, a_ins, a_inCoin, a_inA, a_inB, a_outs, a_amount, a_script, b_parent, b_work, a_rewardScript, a_height, a_holds, a_held, a_delivered, ba, ra, yc, fr, w, wi, sp, ys, ya, yo)) ∧ (¬ 9 < v2 → wpY_in (fun r_5 => ((r_5 = 0 → post (-1) (nI md, nI bk, nI an, nI (ch tp), nI mn, cl, a_op, a_number, a_tokens, a_ins, a_inCoin, a_inA, a_inB, a_outs, a_amount, a_script, b_parent, b_work, a_rewardScript, a_height, a_holds, a_held, a_delivered, ba, ra, yc, fr, w, wi, sp, ys, ya, yo)) ∧ (¬ r_5 = 0 → ((nI bk = 32 → post (-5) (nI md, nI bk, nI an, nI (ch tp), nI mn, cl, a_op, a_number, a_tokens, a_ins, a_inCoin, a_inA, a_inB, a_outs, a_amount, a_script, b_parent, b_work, a_rewardScript, a_height, a_holds, a_held, a_delivered, ba, ra, yc, fr, w, wi, sp, ys, ya, yo)) ∧ (¬ nI bk = 32 → wpY_add (fun r_8 u => match u with | (g_made, g_blocks, g_arrivals, g_tip, g_pooled, g_chainLength, b_op, b_arg, b_length, b_ins, b_inCoin, b_inA, b_inB, b_outs, b_amount, b_lock, b_parent, b_work, b_rewardLock, b_height, b_many, b_holds, b_delivered, b_arrived, b_pool, b_chain, b_from, b_worth, b_within, b_spent, b_stack, b_again, b_chosen) => (∃ n57 : Nat, wY_mine_57 post r_8 g_made g_blocks g_arrivals g_tip g_pooled g_chainLength n57 0 b_op b_arg b_length b_ins b_inCoin b_inA b_inB b_outs b_amount b_lock b_parent b_work b_rewardLock b_height b_many b_holds b_delivered b_arrived b_pool b_chain b_from b_worth b_within b_spent b_stack b_again b_chosen)) (nI md, nI bk, nI an, nI (ch tp), nI mn, cl, a_op, a_number, a_tokens, a_ins, a_inCoin, a_inA, a_inB, a_outs, a_amount, a_script, b_parent, b_work, a_rewardScript, a_height, a_holds, a_held, a_delivered, ba, ra, yc, fr, w, wi, sp, ys, ya, yo) (nI p) v2 v3))))) v3 8)))) → wpY_mine post (nI md, nI bk, nI an, nI (ch tp), nI mn, cl, a_op, a_number, a_tokens, a_ins, a_inCoin, a_inA, a_inB, a_outs, a_amount, a_script, b_parent, b_work, a_rewardScript, a_height, a_holds, a_held, a_delivered, ba, ra, yc, fr, w, wi, sp, ys, ya, yo) (nI p) v2 v3 := by
    intro post W
    unfold wpY_mine
    refine yy_in1 hp (by omega) ?_
    exact br_f kn_10 W
  refine br_t rfl (br_c (fun z1 => Y1 _ (br_t z1 ⟨rfl, R0⟩)) (fun z1 => br_c (fun z2 => Y1 _ (br_f z1 (br_t z2 ⟨rfl, R0⟩))) (fun z2 => ?_)))
  obtain ⟨x, hx, rfl⟩ : ∃ x, x ≤ 9 ∧ v2 = nI x := nI_of2 (M := 9) (n := 9) (by decide) (fun q => z1 (Int32.lt_trans q (by decide))) (Int32.not_lt.mp z2)
  rcases pk_ix v3 (n := 8) (by omega) with q | q | ⟨s, hs, rfl⟩
  · refine xx_no0 (Or.inl q) ?_
    refine br_f kn_10 (Y1 _ (br_f z1 (br_f z2 ?_)))
    refine yy_in0 (Or.inl q) ?_
    exact br_t rfl ⟨rfl, R0⟩
  · refine xx_no0 (y := 8) (Or.inr q) ?_
    refine br_f kn_10 (Y1 _ (br_f z1 (br_f z2 ?_)))
    refine yy_in0 (y := 8) (Or.inr q) ?_
    exact br_t rfl ⟨rfl, R0⟩
  refine xx_no1 (n := 8) hs (by omega) ?_
  refine br_t rfl (pk_eq bk 32 (fun z => Y1 _ (br_f z1 (br_f z2 ?_))) (fun z => ?_))
  · refine yy_in1 (n := 8) hs (by omega) ?_
    exact br_f kn_10 (pk_eq bk 32 (fun _ => ⟨rfl, R0⟩) (fun q => absurd z q))
  have hb : bk < 32 := by omega
  have hep : he p + 1 < 32 := by have := kc_T_h T (p + 1) p (by omega) hp; omega
  have wp := B.2.2.2.2.2.2.2.2.2.2.2 p hp
  have hl := kn_l (dx_nh D) 32
  have e32 : a_holds 32 = nI (nh 32) := kn_e (dx_nh D) 32
  have nb : nh bk = 0 := S.2.2.2.2.2.2.2.1 bk (Nat.le_refl _) hb
  have ah : kn_H (upd (upd a_holds bk (nI (nh 32))) 32 0) (kn_u (kn_u nh bk (nh 32)) 32 0) 5 := kn_upd (kn_upd (dx_nh D) rfl hl) nI_0.symm (by omega)
  obtain ⟨N', D', S', B', Z'⟩ := zz_new (x := x) (nh' := kn_u (kn_u nh bk (nh 32)) 32 0) (hd' := zh_c (nh 32) hd bk) (ad := zh_c (nh 32) a_held bk) hb hp (show x < 10 by omega) hs N D S B Z
    (fun b h => by rw [kn_un (by omega), kn_un (by omega)]) (fun b h1 h2 => by rw [kn_un (by omega), kn_un (by omega)]) (fun j hj => by rw [kn_us] at hj; omega)
    (fun j hj => by
      rw [kn_un (by omega), kn_us] at hj
      rw [zh_in (by omega), show 4 * bk + j - 4 * bk = j by omega]
      exact S.2.2.2.2.2.2.1 j hj)
    (fun b hb' j hj => zh_lo (by have := kn_l (dx_nh D) b; omega)) ah (zh_H (dx_hd D))
  refine xx_begin hb hp (by omega) hs hep (by omega) D B.2.2.1 ?_
  refine And.intro (pk_in bk 33 (by omega)) (nm_r (e' := upd a_holds bk (nI (nh 32))) (by rw [e32, kn_vb (nh 32), kn_ux bk]) ⟨nh 32 + 1, ?_⟩)
  have h32' : upd a_holds bk (nI (nh 32)) 32 = nI (nh 32) := by rw [pk_un (by omega)]; exact e32
  have X := xx_mi71 (f_made := nI md) (f_blocks := nI (bk + 1)) (f_arrivals := nI an) (f_top := nI tp) (f_many := nI mn) (f_agains := 0) (f_feeNow := fe) (a_op := a_op) (a_number := a_number) (a_tokens := a_tokens) (a_used := upd a_used s 1) (a_timed := a_timed) (a_stack := st) (a_inCoin := a_inCoin) (a_inA := a_inA) (a_inB := a_inB) (a_ins := a_ins) (a_amount := a_amount) (a_script := a_script) (a_outs := a_outs) (a_fitting := fi) (a_parent := upd a_parent bk (nI p)) (a_height := upd a_height bk (nI (he p + 1))) (a_work := upd a_work bk (nI (wk p + x))) (a_holds := upd a_holds bk (nI (nh 32))) (a_rewardScript := upd a_rewardScript bk (nI s)) (a_reward := rw) (a_delivered := a_delivered) (a_arrival := aa) (a_right := rg) (a_wrong := wr) (a_chain := cn) (a_born := K.1) (a_spent := K.2.1) (a_since := K.2.2.1) (a_row := ra) (a_fees := fs) (a_taker := tr) (a_again := ag) (a_before := bf) (post := fun r u' => wpY_mine (fun r' v' => r' = r ∧ i_Rel (k + 4) u' v') (nI md, nI bk, nI an, nI (ch tp), nI mn, cl, a_op, a_number, a_tokens, a_ins, a_inCoin, a_inA, a_inB, a_outs, a_amount, a_script, b_parent, b_work, a_rewardScript, a_height, a_holds, a_held, a_delivered, ba, ra, yc, fr, w, wi, sp, ys, ya, yo) (nI p) (nI x) (nI s)) (hl := a_held) (b := bk) (m := nh 32) hb hl h32' (dx_hd D) ?_ (nh 32) 0 _ (by omega) (Nat.lt_succ_self _)
  · rw [zh_0] at X
    exact X
  · refine Y1 _ (br_f z1 (br_f z2 ?_))
    refine yy_in1 (n := 8) hs (by omega) ?_
    refine br_f kn_10 (pk_eq bk 32 (fun q => absurd q z) (fun _ => ?_))
    refine yy_add hb hp DY ?_
    have ez : upd a_holds bk 0 = a_holds := kn_ui (by rw [kn_e (dx_nh D) bk, nb]; rfl)
    refine ⟨nh 32 + 1, ?_⟩
    rw [ez]
    have Y := yy_mi57 (g_made := nI md) (g_blocks := nI (bk + 1)) (g_arrivals := nI an) (g_tip := nI (ch tp)) (g_pooled := nI mn) (g_chainLength := cl) (b_op := a_op) (b_arg := a_number) (b_length := a_tokens) (b_ins := a_ins) (b_inCoin := a_inCoin) (b_inA := a_inA) (b_inB := a_inB) (b_outs := a_outs) (b_amount := a_amount) (b_lock := a_script) (b_parent := upd b_parent bk (nI p)) (b_work := upd b_work bk (nI x)) (b_rewardLock := upd a_rewardScript bk (nI s)) (b_height := upd a_height bk (nI (he p + 1))) (b_many := a_holds) (b_delivered := a_delivered) (b_arrived := ba) (b_pool := ra) (b_chain := yc) (b_from := fr) (b_worth := w) (b_within := wi) (b_spent := sp) (b_stack := ys) (b_again := ya) (b_chosen := yo) (post := fun r' v' => r' = nI bk ∧ i_Rel (k + 4) (nI md, nI (bk + 1), nI an, nI tp, nI mn, 0, fe, a_op, a_number, a_tokens, upd a_used s 1, a_timed, st, a_inCoin, a_inA, a_inB, a_ins, a_amount, a_script, a_outs, fi, upd a_parent bk (nI p), upd a_height bk (nI (he p + 1)), upd a_work bk (nI (wk p + x)), upd (upd a_holds bk (nI (nh 32))) 32 0, zh_c (nh 32) a_held bk, upd a_rewardScript bk (nI s), rw, a_delivered, aa, rg, wr, cn, K.1, K.2.1, K.2.2.1, ra, fs, tr, ag, bf) v') (hl := a_held) (b := bk) (m := nh 32) hb hl e32 ⟨rfl, ?_⟩ (nh 32) 0 _ (by omega) (Nat.lt_succ_self _)
    · rw [zh_0] at Y
      exact Y
    · exact fun P h => h md (bk + 1) an tp mn oP tk ic ni nu sc (kn_u rs bk s) (kn_u (kn_u nh bk (nh 32)) 32 0) (zh_c (nh 32) hd bk) (kn_u pa bk p) (kn_u he bk (he p + 1)) (kn_u wk bk (wk p + x)) ar ch row K fe cl a_op a_number a_tokens (upd a_used s 1) a_timed a_inCoin a_inA a_inB a_ins a_amount a_script a_outs (upd a_parent bk (nI p)) (upd a_height bk (nI (he p + 1))) (upd a_work bk (nI (wk p + x))) (upd (upd a_holds bk (nI (nh 32))) 32 0) (zh_c (nh 32) a_held bk) (upd a_rewardScript bk (nI s)) a_delivered st fi rw rg wr cn ra fs tr ag bf aa (upd b_parent bk (nI p)) (upd b_work bk (nI x)) ba yc fr w wi sp ys ya yo N' D' S' B' Z'
end
section
/-! ===== forge: which transactions are taken ===== -/
noncomputable def kg_b (L F : Nat → Prop) (fee : Nat → Int32) : Nat → Option Nat
  | 0 => none
  | k + 1 => @ite _ (L k ∧ F k ∧ ∀ b, kg_b L F fee k = some b → fee b < fee k) (Classical.propDecidable _) (some k) (kg_b L F fee k)
theorem kg_b_t {L F : Nat → Prop} {fee : Nat → Int32} {k : Nat} (h : L k ∧ F k ∧ ∀ b, kg_b L F fee k = some b → fee b < fee k) : kg_b L F fee (k + 1) = some k := if_pos h
theorem kg_b_f {L F : Nat → Prop} {fee : Nat → Int32} {k : Nat} (h : ¬ (L k ∧ F k ∧ ∀ b, kg_b L F fee k = some b → fee b < fee k)) : kg_b L F fee (k + 1) = kg_b L F fee k := if_neg h
theorem kg_b_l {L F : Nat → Prop} {fee : Nat → Int32} : ∀ (k b : Nat), kg_b L F fee k = some b → b < k ∧ L b
  | 0, b, e => nomatch e
  | k + 1, b, e => by
    by_cases z : L k ∧ F k ∧ ∀ b, kg_b L F fee k = some b → fee b < fee k
    · rw [kg_b_t z] at e
      have := Option.some.inj e
      subst this
      exact ⟨by omega, z.1⟩
    · rw [kg_b_f z] at e
      have := kg_b_l k b e
      exact ⟨by omega, this.2⟩
theorem kg_b_cg {L F L' F' : Nat → Prop} {fee fee' : Nat → Int32} : ∀ k, (∀ j, j < k → (L j ↔ L' j) ∧ (F j ↔ F' j) ∧ fee j = fee' j) → kg_b L F fee k = kg_b L' F' fee' k
  | 0, _ => rfl
  | k + 1, h => by
    have ih := kg_b_cg k (fun j hj => h j (by omega))
    obtain ⟨h1, h2, h3⟩ := h k (by omega)
    have e : (L k ∧ F k ∧ ∀ b, kg_b L F fee k = some b → fee b < fee k) ↔ (L' k ∧ F' k ∧ ∀ b, kg_b L' F' fee' k = some b → fee' b < fee' k) := by
      rw [← ih, h1, h2, h3]
      constructor
      · rintro ⟨a, b, c⟩
        exact ⟨a, b, fun x hx => by rw [← (h x (by have := (kg_b_l k x hx).1; omega)).2.2]; exact c x hx⟩
      · rintro ⟨a, b, c⟩
        exact ⟨a, b, fun x hx => by rw [(h x (by have := (kg_b_l k x hx).1; omega)).2.2]; exact c x hx⟩
    by_cases z : L k ∧ F k ∧ ∀ b, kg_b L F fee k = some b → fee b < fee k
    · rw [kg_b_t z, kg_b_t (e.mp z)]
    · rw [kg_b_f z, kg_b_f (fun q => z (e.mpr q)), ih]
def kg_i (o : Option Nat) : Int32 := match o with
  | none => -1
  | some b => nI b
def kg_L (mn : Nat) (q : Nat → Nat) (n k : Nat) : Prop := k < mn ∧ ∀ i, i < n → q i ≠ k
def kg_F (ic ni row : Nat → Nat) (mn : Nat) (q : Nat → Nat) (n k : Nat) : Prop := ∀ j, kg_L mn q n j → ¬ kp_nd ic ni (row k) (row j)
/-- the picks, one behind another, four at most -/
def kg_R (ic ni row : Nat → Nat) (mn : Nat) (fs : Nat → Int32) (q : Nat → Nat) (m : Nat) : Prop :=
  m ≤ 4 ∧ (∀ n, n < m → kg_b (kg_L mn q n) (kg_F ic ni row mn q n) fs mn = some (q n)) ∧ (m < 4 → kg_b (kg_L mn q m) (kg_F ic ni row mn q m) fs mn = none)
theorem kg_L_cg {mn n : Nat} {q q' : Nat → Nat} (h : ∀ i, i < n → q i = q' i) (k : Nat) : kg_L mn q n k ↔ kg_L mn q' n k := by
  constructor
  · rintro ⟨a, b⟩; exact ⟨a, fun i hi => by rw [← h i hi]; exact b i hi⟩
  · rintro ⟨a, b⟩; exact ⟨a, fun i hi => by rw [h i hi]; exact b i hi⟩
theorem kg_pick_cg {ic ni row : Nat → Nat} {mn n : Nat} {fs : Nat → Int32} {q q' : Nat → Nat} (h : ∀ i, i < n → q i = q' i) : kg_b (kg_L mn q n) (kg_F ic ni row mn q n) fs mn = kg_b (kg_L mn q' n) (kg_F ic ni row mn q' n) fs mn := by
  refine kg_b_cg mn (fun j _ => ⟨kg_L_cg h j, ⟨fun a x hx => a x ((kg_L_cg h x).mpr hx), fun a x hx => a x ((kg_L_cg h x).mp hx)⟩, rfl⟩)
theorem kg_ex {ic ni row : Nat → Nat} {mn : Nat} {fs : Nat → Int32} : ∀ (d n : Nat) (q : Nat → Nat), n + d = 4 → (∀ n', n' < n → kg_b (kg_L mn q n') (kg_F ic ni row mn q n') fs mn = some (q n')) → ∃ q' m, kg_R ic ni row mn fs q' m
  | 0, n, q, e, h => ⟨q, n, by omega, h, fun z => by omega⟩
  | d + 1, n, q, e, h => by
    cases z : kg_b (kg_L mn q n) (kg_F ic ni row mn q n) fs mn with
    | none => exact ⟨q, n, by omega, h, fun _ => z⟩
    | some b =>
      refine kg_ex d (n + 1) (kn_u q n b) (by omega) (fun n' hn' => ?_)
      have c : ∀ i, i < n' → kn_u q n b i = q i := fun i hi => kn_un (by omega)
      rw [kg_pick_cg c]
      by_cases y : n' = n
      · subst y; rw [kn_us]; exact z
      · rw [kn_un y]; exact h n' (by omega)
theorem kg_R_l {ic ni row : Nat → Nat} {mn m : Nat} {fs : Nat → Int32} {q : Nat → Nat} (R : kg_R ic ni row mn fs q m) {n : Nat} (hn : n < m) : q n < mn ∧ ∀ i, i < n → q i ≠ q n := (kg_b_l _ _ (R.2.1 n hn)).2
/-- what is written for the picks -/
def kg_h {α : Type} (g v : Nat → α) (b : Nat) : Nat → (Nat → α)
  | 0 => g
  | n + 1 => fun i => if i = 4 * b + n then v n else kg_h g v b n i
theorem kg_h_in {α : Type} {g v : Nat → α} {b : Nat} : ∀ (n k : Nat), k < n → kg_h g v b n (4 * b + k) = v k
  | 0, k, h => by omega
  | n + 1, k, h => by
    show (if 4 * b + k = 4 * b + n then v n else kg_h g v b n (4 * b + k)) = v k
    by_cases y : k = n
    · rw [if_pos (by omega), y]
    · rw [if_neg (by omega)]; exact kg_h_in n k (by omega)
theorem kg_h_out {α : Type} {g v : Nat → α} {b i : Nat} : ∀ (n : Nat), ¬ (4 * b ≤ i ∧ i < 4 * b + n) → kg_h g v b n i = g i
  | 0, _ => rfl
  | n + 1, h => by
    show (if i = 4 * b + n then v n else kg_h g v b n i) = g i
    rw [if_neg (by omega)]; exact kg_h_out n (by omega)
theorem kg_h_H {g : Nat → Int32} {f v : Nat → Nat} {b M : Nat} (H : kn_H g f M) : ∀ n, (∀ i, i < n → v i < M) → kn_H (kg_h g (fun i => nI (v i)) b n) (kg_h f v b n) M
  | 0, _ => H
  | n + 1, h => by
    intro i
    by_cases y : i = 4 * b + n
    · show (if i = 4 * b + n then nI (v n) else kg_h g (fun i => nI (v i)) b n i) = nI (if i = 4 * b + n then v n else kg_h f v b n i) ∧ (if i = 4 * b + n then v n else kg_h f v b n i) < M
      rw [if_pos y, if_pos y]; exact ⟨rfl, h n (by omega)⟩
    · show (if i = 4 * b + n then nI (v n) else kg_h g (fun i => nI (v i)) b n i) = nI (if i = 4 * b + n then v n else kg_h f v b n i) ∧ (if i = 4 * b + n then v n else kg_h f v b n i) < M
      rw [if_neg y, if_neg y]; exact kg_h_H H n (fun i hi => h i (by omega)) i
theorem kg_m0 : ∀ m, m < 13 → ∀ j, j < 32 → bt (((1 : Int32) <<< (nI m &&& 31)) - 1) j = decide (j < m) := by decide +kernel
section
variable {f_made f_blocks f_arrivals f_top f_agains f_feeNow : Int32} {a_op a_number a_tokens a_used a_timed a_stack a_inCoin a_inA a_inB a_ins a_amount a_script a_outs a_fitting a_parent a_height a_work a_holds a_held a_rewardScript a_reward a_delivered a_arrival a_right a_wrong a_chain a_born a_spent a_since a_row a_fees a_taker a_again a_before : Nat → Int32} {oP tk ic ni nu sc rs nh hd pa he : Nat → Nat} {md bk : Nat} {mn : Nat} {row : Nat → Nat}
theorem xx_ric4 {post : Int32 → Prop} {left : Int32} {q : Nat → Nat} {n : Nat} (h12 : mn ≤ 12) (Hr : kn_H a_row row 40) (inj : ∀ j k, j < mn → k < mn → row j = row k → j = k) (D : kx_D a_op a_number a_tokens a_timed a_inCoin a_ins a_outs a_script a_rewardScript a_holds a_held a_parent a_height oP tk ic ni nu sc rs nh hd pa he) (hb : ∀ k, bt left k = true ↔ kg_L mn q n k)
    (hp : post (kg_i (kg_b (kg_L mn q n) (kg_F ic ni row mn q n) a_fees mn))) :
    ∀ (d k N : Nat), k + d = mn → d < N → wX_richest_4 post left f_made f_blocks f_arrivals f_top (nI mn) f_agains f_feeNow a_op a_number a_tokens a_used a_timed a_stack a_inCoin a_inA a_inB a_ins a_amount a_script a_outs a_fitting a_parent a_height a_work a_holds a_held a_rewardScript a_reward a_delivered a_arrival a_right a_wrong a_chain a_born a_spent a_since a_row a_fees a_taker a_again a_before N (kg_i (kg_b (kg_L mn q n) (kg_F ic ni row mn q n) a_fees k)) (nI k) := by
  intro d
  induction d with
  | zero =>
    intro k N e hN
    obtain ⟨N, rfl⟩ : ∃ n', N = n' + 1 := ⟨N - 1, by omega⟩
    have ek : k = mn := by omega
    subst ek
    exact pk_le k k (fun _ => hp) (fun z => by omega)
  | succ d ih =>
    intro k N e hN
    obtain ⟨N, rfl⟩ : ∃ n', N = n' + 1 := ⟨N - 1, by omega⟩
    have rl := kn_l Hr k
    have go := ih (k + 1) N (by omega) (by omega)
    refine pk_le mn k (fun z => by omega) (fun _ => ?_)
    cases b : bt left k with
    | false =>
      have nl : ¬ kg_L mn q n k := fun y => by rw [(hb k).mpr y] at b; exact nomatch b
      rw [kg_b_f (fun y => nl y.1)] at go
      exact br_t ((kq_u (by omega) left).mpr b) (nm_r (nI_1 k) go)
    | true =>
      have hl := (hb k).mp b
      refine br_f (fun y => by rw [kq_u (by omega) left, b] at y; exact nomatch y) ?_
      have ln : ∀ (x2 : Int32), (kg_F ic ni row mn q n k → wX_richest_4 post left f_made f_blocks f_arrivals f_top (nI mn) f_agains f_feeNow a_op a_number a_tokens a_used a_timed a_stack a_inCoin a_inA a_inB a_ins a_amount a_script a_outs a_fitting a_parent a_height a_work a_holds a_held a_rewardScript a_reward a_delivered a_arrival a_right a_wrong a_chain a_born a_spent a_since a_row a_fees a_taker a_again a_before N (nI k) (nI (k + 1))) → (¬ kg_F ic ni row mn q n k → wX_richest_4 post left f_made f_blocks f_arrivals f_top (nI mn) f_agains f_feeNow a_op a_number a_tokens a_used a_timed a_stack a_inCoin a_inA a_inB a_ins a_amount a_script a_outs a_fitting a_parent a_height a_work a_holds a_held a_rewardScript a_reward a_delivered a_arrival a_right a_wrong a_chain a_born a_spent a_since a_row a_fees a_taker a_again a_before N x2 (nI (k + 1))) → wX_richest_42 post (wX_richest_4 post left f_made f_blocks f_arrivals f_top (nI mn) f_agains f_feeNow a_op a_number a_tokens a_used a_timed a_stack a_inCoin a_inA a_inB a_ins a_amount a_script a_outs a_fitting a_parent a_height a_work a_holds a_held a_rewardScript a_reward a_delivered a_arrival a_right a_wrong a_chain a_born a_spent a_since a_row a_fees a_taker a_again a_before N) left x2 (nI k) f_made f_blocks f_arrivals f_top (nI mn) f_agains f_feeNow a_op a_number a_tokens a_used a_timed a_stack a_inCoin a_inA a_inB a_ins a_amount a_script a_outs a_fitting a_parent a_height a_work a_holds a_held a_rewardScript a_reward a_delivered a_arrival a_right a_wrong a_chain a_born a_spent a_since a_row a_fees a_taker a_again a_before := by
        intro x2 k1 k0
        refine And.intro (pk_in k 12 (by omega)) ?_
        rw [kn_at Hr k]
        refine xx_leans rl h12 Hr inj D (fun y => br_f kn_10 (nm_r (nI_1 k) (k0 (fun F => ?_)))) (fun y => br_t rfl (nm_r (nI_1 k) (k1 (fun j hj => ?_))))
        · obtain ⟨j, a1, a2, a3⟩ := y
          exact F j ((hb j).mp a2) a3
        · exact y j hj.1 ((hb j).mpr hj)
      cases o : kg_b (kg_L mn q n) (kg_F ic ni row mn q n) a_fees k with
      | none =>
        refine br_t (by show (-1 : Int32) < 0; decide) (ln _ (fun F => ?_) (fun F => ?_))
        · rw [kg_b_t ⟨hl, F, fun x hx => by rw [o] at hx; exact nomatch hx⟩] at go
          exact go
        · rw [kg_b_f (fun y => F y.2.1), o] at go
          exact go
      | some x =>
        have xl := (kg_b_l _ _ o).1
        refine br_f (nI_pos (by omega)) (And.intro (pk_in k 12 (by omega)) (And.intro (pk_in x 12 (by omega)) ?_))
        rw [show (kg_i (some x)).toNatClampNeg = x from nI_clamp (by omega), nI_clamp (show k < 2 ^ 31 by omega)]
        refine br_c (fun y => ln _ (fun F => ?_) (fun F => ?_)) (fun y => ?_)
        · rw [kg_b_t ⟨hl, F, fun z hz => by rw [o] at hz; rw [← Option.some.inj hz]; exact y⟩] at go
          exact go
        · rw [kg_b_f (fun w => F w.2.1), o] at go
          exact go
        · rw [kg_b_f (fun w => y (w.2.2 x o)), o] at go
          exact nm_r (nI_1 k) go
theorem xx_richest {post : Int32 → Prop} {left : Int32} {q : Nat → Nat} {n : Nat} (h12 : mn ≤ 12) (Hr : kn_H a_row row 40) (inj : ∀ j k, j < mn → k < mn → row j = row k → j = k) (D : kx_D a_op a_number a_tokens a_timed a_inCoin a_ins a_outs a_script a_rewardScript a_holds a_held a_parent a_height oP tk ic ni nu sc rs nh hd pa he) (hb : ∀ k, bt left k = true ↔ kg_L mn q n k)
    (hp : post (kg_i (kg_b (kg_L mn q n) (kg_F ic ni row mn q n) a_fees mn))) : wpX_richest post (f_made, f_blocks, f_arrivals, f_top, nI mn, f_agains, f_feeNow, a_op, a_number, a_tokens, a_used, a_timed, a_stack, a_inCoin, a_inA, a_inB, a_ins, a_amount, a_script, a_outs, a_fitting, a_parent, a_height, a_work, a_holds, a_held, a_rewardScript, a_reward, a_delivered, a_arrival, a_right, a_wrong, a_chain, a_born, a_spent, a_since, a_row, a_fees, a_taker, a_again, a_before) left :=
  ⟨mn + 1, xx_ric4 h12 Hr inj D hb hp mn 0 _ (by omega) (by omega)⟩
end
theorem kx_D_set {a_op a_number a_tokens a_timed a_inCoin a_ins a_outs a_script a_rewardScript a_holds a_held a_parent a_height ah ad : Nat → Int32} {oP tk ic ni nu sc rs nh hd pa he nh' hd' : Nat → Nat} (D : kx_D a_op a_number a_tokens a_timed a_inCoin a_ins a_outs a_script a_rewardScript a_holds a_held a_parent a_height oP tk ic ni nu sc rs nh hd pa he) (h1 : kn_H ah nh' 5) (h2 : kn_H ad hd' 40) :
    kx_D a_op a_number a_tokens a_timed a_inCoin a_ins a_outs a_script a_rewardScript ah ad a_parent a_height oP tk ic ni nu sc rs nh' hd' pa he := by
  obtain ⟨x1, x2, x3, x4, x5, x6, x7, x8, x9, x10, x11, x12⟩ := D
  exact ⟨x1, x2, x3, x4, x5, x6, x7, x8, x9, h1, h2, x12⟩
section
variable {f_made f_blocks f_arrivals f_top f_agains f_feeNow : Int32} {a_op a_number a_tokens a_used a_timed a_stack a_inCoin a_inA a_inB a_ins a_amount a_script a_outs a_fitting a_parent a_height a_work a_rewardScript a_reward a_delivered a_arrival a_right a_wrong a_chain a_born a_spent a_since a_row a_fees a_taker a_again a_before : Nat → Int32} {oP tk ic ni nu sc rs nh hd pa he : Nat → Nat} {md bk : Nat} {mn : Nat} {row : Nat → Nat} {ah ad : Nat → Int32}
/-- X takes them -/
theorem xx_f68 {b m : Nat} {q : Nat → Nat} (h32 : b < 32) (h12 : mn ≤ 12) (Hr : kn_H a_row row 40) (inj : ∀ j k, j < mn → k < mn → row j = row k → j = k) (D : kx_D a_op a_number a_tokens a_timed a_inCoin a_ins a_outs a_script a_rewardScript ah ad a_parent a_height oP tk ic ni nu sc rs nh hd pa he) (R : kg_R ic ni row mn a_fees q m) :
    ∀ (d n : Nat) (left : Int32), n + d = m → (∀ k, bt left k = true ↔ kg_L mn q n k) → ∀ (post : Int32 → SX → Prop), wX_forge_133 post (nI b) f_made f_blocks f_arrivals f_top (nI mn) f_agains f_feeNow a_op a_number a_tokens a_used a_timed a_stack a_inCoin a_inA a_inB a_ins a_amount a_script a_outs a_fitting a_parent a_height a_work (upd ah b (nI m)) (kg_h ad (fun i => nI (row (q i))) b m) a_rewardScript a_reward a_delivered a_arrival a_right a_wrong a_chain a_born a_spent a_since a_row a_fees a_taker a_again a_before → ∀ N, d < N → ∀ Q : Int32 → Prop, (∀ r, wX_forge_68 post (nI b) f_made f_blocks f_arrivals f_top (nI mn) f_agains f_feeNow N left r a_op a_number a_tokens a_used a_timed a_stack a_inCoin a_inA a_inB a_ins a_amount a_script a_outs a_fitting a_parent a_height a_work (upd ah b (nI n)) (kg_h ad (fun i => nI (row (q i))) b n) a_rewardScript a_reward a_delivered a_arrival a_right a_wrong a_chain a_born a_spent a_since a_row a_fees a_taker a_again a_before → Q r) → wpX_richest Q (f_made, f_blocks, f_arrivals, f_top, nI mn, f_agains, f_feeNow, a_op, a_number, a_tokens, a_used, a_timed, a_stack, a_inCoin, a_inA, a_inB, a_ins, a_amount, a_script, a_outs, a_fitting, a_parent, a_height, a_work, upd ah b (nI n), kg_h ad (fun i => nI (row (q i))) b n, a_rewardScript, a_reward, a_delivered, a_arrival, a_right, a_wrong, a_chain, a_born, a_spent, a_since, a_row, a_fees, a_taker, a_again, a_before) left := by
  have m4 := R.1
  have Dn : ∀ n, n ≤ m → kx_D a_op a_number a_tokens a_timed a_inCoin a_ins a_outs a_script a_rewardScript (upd ah b (nI n)) (kg_h ad (fun i => nI (row (q i))) b n) a_parent a_height oP tk ic ni nu sc rs (kn_u nh b n) (kg_h hd (fun i => row (q i)) b n) pa he := fun n hn => kx_D_set D (kn_upd (dx_nh D) rfl (by omega)) (kg_h_H (dx_hd D) n (fun i _ => kn_l Hr _))
  have eh : ∀ n, upd ah b (nI n) (nI b).toNatClampNeg = nI n := fun n => by rw [nI_clamp (by omega)]; exact pk_us
  have i33 : vp_in (nI b) 33 := pk_in b 33 (by omega)
  intro d
  induction d with
  | zero =>
    intro n left e hb post W N hN Q hQ
    have en : n = m := by omega
    subst en
    refine xx_richest h12 Hr inj (Dn n (Nat.le_refl _)) hb (hQ _ ?_)
    obtain ⟨N, rfl⟩ : ∃ n', N = n' + 1 := ⟨N - 1, by omega⟩
    cases o : kg_b (kg_L mn q n) (kg_F ic ni row mn q n) a_fees mn with
    | none => exact br_t (by show (-1 : Int32) < 0; decide) W
    | some x =>
      have xl := (kg_b_l _ _ o).1
      have n4 : n = 4 := by
        by_cases z : n < 4
        · rw [R.2.2 z] at o; exact nomatch o
        · omega
      exact br_f (nI_pos (by omega)) (And.intro i33 (pk_le 4 n (fun _ => W) (fun z => by omega) rfl (eh n)))
  | succ d ih =>
    intro n left e hb post W N hN Q hQ
    refine xx_richest h12 Hr inj (Dn n (by omega)) hb (hQ _ ?_)
    obtain ⟨N, rfl⟩ : ∃ n', N = n' + 1 := ⟨N - 1, by omega⟩
    rw [R.2.1 n (by omega)]
    have xl := kg_R_l R (show n < m by omega)
    have rl := kn_l Hr (q n)
    have nb : ∀ k, bt (left &&& (((1 : Int32) <<< (nI (q n) &&& 31)) ^^^ (-1))) k = true ↔ kg_L mn q (n + 1) k := fun k => by
      by_cases k32 : k < 32
      · rw [kq_andn (by omega) left k32, hb k]
        constructor
        · rintro ⟨⟨a1, a2⟩, a3⟩
          refine ⟨a1, fun i hi => ?_⟩
          by_cases y : i = n
          · rw [y]; exact fun z => a3 z.symm
          · exact a2 i (by omega)
        · rintro ⟨a1, a2⟩
          exact ⟨⟨a1, fun i hi => a2 i (by omega)⟩, fun z => a2 n (by omega) z.symm⟩
      · rw [b_big (by omega)]
        constructor
        · intro h; exact nomatch h
        · rintro ⟨a1, _⟩; omega
    have e4 : 4 * nI b + upd ah b (nI n) (nI b).toNatClampNeg = nI (4 * b + n) := by rw [eh n, kn_m4, nI_add]
    refine br_f (nI_pos (by omega)) (And.intro i33 (pk_le 4 n (fun z => by omega) (fun _ => And.intro i33 (And.intro i33 (nm_r (e' := upd ah b (nI (n + 1))) ?_ (And.intro (pk_in (q n) 12 (by omega)) (And.intro (pk_in (4 * b + n) 132 (by omega) e4) (nm_r (e' := kg_h ad (fun i => nI (row (q i))) b (n + 1)) ?_ (nm_e ?_))))))) rfl (eh n)))
    · rw [eh n, kn_vb2 (n + 1) (nI_1 n), kn_ux b]; exact kn_uu
    · rw [show a_row (kg_i (some (q n))).toNatClampNeg = nI (row (q n)) from kn_at Hr (q n), kn_vb (row (q n)), kn_ux (4 * b + n) e4]; rfl
    · exact ih (n + 1) _ (by omega) nb post W N (by omega) _ (fun r h => h)
end
section
variable {g_made g_blocks g_arrivals g_tip g_chainLength : Int32} {b_op b_arg b_length b_ins b_inCoin b_inA b_inB b_outs b_amount b_lock b_parent b_work b_rewardLock b_height b_many b_holds b_delivered b_arrived b_pool b_chain b_from b_worth b_within b_spent b_stack b_again : Nat → Int32} {oP tk ic ni nu sc rs nh hd pa he : Nat → Nat} {md bk : Nat} {mn : Nat} {row : Nat → Nat} {cz : Nat → Int32}
theorem yy_isChosen {post : Int32 → Prop} {n x : Nat} (hn : n ≤ 4) (k1 : (∃ i, i < n ∧ cz i = nI x) → post 1) (k0 : ¬ (∃ i, i < n ∧ cz i = nI x) → post 0) : wpY_isChosen post (g_made, g_blocks, g_arrivals, g_tip, nI mn, g_chainLength, b_op, b_arg, b_length, b_ins, b_inCoin, b_inA, b_inB, b_outs, b_amount, b_lock, b_parent, b_work, b_rewardLock, b_height, b_many, b_holds, b_delivered, b_arrived, b_pool, b_chain, b_from, b_worth, b_within, b_spent, b_stack, b_again, cz) (nI x) (nI n) := by
  have go : ∀ (d i N : Nat), i + d = n → (∀ j, j < i → ¬ cz j = nI x) → d < N → wY_isChosen_2 post (nI x) (nI n) g_made g_blocks g_arrivals g_tip (nI mn) g_chainLength b_op b_arg b_length b_ins b_inCoin b_inA b_inB b_outs b_amount b_lock b_parent b_work b_rewardLock b_height b_many b_holds b_delivered b_arrived b_pool b_chain b_from b_worth b_within b_spent b_stack b_again cz N (nI i) := by
    intro d
    induction d with
    | zero =>
      intro i N e M hN
      obtain ⟨N, rfl⟩ : ∃ n', N = n' + 1 := ⟨N - 1, by omega⟩
      exact pk_le n i (fun _ => k0 (fun ⟨j, a, c⟩ => M j (by omega) c)) (fun z => by omega)
    | succ d ih =>
      intro i N e M hN
      obtain ⟨N, rfl⟩ : ∃ n', N = n' + 1 := ⟨N - 1, by omega⟩
      refine pk_le n i (fun z => by omega) (fun z => And.intro (pk_in i 4 (by omega)) ?_)
      rw [nI_clamp (by omega)]
      refine br_c (fun y => k1 ⟨i, z, y⟩) (fun y => nm_r (nI_1 i) (ih (i + 1) N (by omega) (fun j hj => ?_) (by omega)))
      by_cases q : j = i
      · rw [q]; exact y
      · exact M j (by omega)
  exact ⟨n + 1, go n 0 _ (by omega) (fun j hj => by omega) (by omega)⟩
theorem yy_isFree {post : Int32 → Prop} {n x : Nat} {q : Nat → Nat} (hn : n ≤ 4) (h12 : mn ≤ 12) (hx : x < mn) (Hr : kn_H b_pool row 40) (D : ky_D b_op b_arg b_length b_inCoin b_ins b_outs b_lock b_rewardLock b_many b_holds b_parent b_height oP tk ic ni nu sc rs nh hd pa he) (hc : ∀ k, k < mn → ((∃ i, i < n ∧ cz i = nI (row k)) ↔ ¬ kg_L mn q n k)) (k1 : kg_F ic ni row mn q n x → post 1) (k0 : ¬ kg_F ic ni row mn q n x → post 0) : wpY_isFree post (g_made, g_blocks, g_arrivals, g_tip, nI mn, g_chainLength, b_op, b_arg, b_length, b_ins, b_inCoin, b_inA, b_inB, b_outs, b_amount, b_lock, b_parent, b_work, b_rewardLock, b_height, b_many, b_holds, b_delivered, b_arrived, b_pool, b_chain, b_from, b_worth, b_within, b_spent, b_stack, b_again, cz) (nI (row x)) (nI n) := by
  have go : ∀ (d k N : Nat), k + d = mn → (∀ j, j < k → kg_L mn q n j → ¬ kp_nd ic ni (row x) (row j)) → d < N → wY_isFree_2 post (nI (row x)) (nI n) g_made g_blocks g_arrivals g_tip (nI mn) g_chainLength b_op b_arg b_length b_ins b_inCoin b_inA b_inB b_outs b_amount b_lock b_parent b_work b_rewardLock b_height b_many b_holds b_delivered b_arrived b_pool b_chain b_from b_worth b_within b_spent b_stack b_again cz N (nI k) := by
    intro d
    induction d with
    | zero =>
      intro k N e M hN
      obtain ⟨N, rfl⟩ : ∃ n', N = n' + 1 := ⟨N - 1, by omega⟩
      exact pk_le mn k (fun _ => k1 (fun j hj => M j (by have := hj.1; omega) hj)) (fun z => by omega)
    | succ d ih =>
      intro k N e M hN
      obtain ⟨N, rfl⟩ : ∃ n', N = n' + 1 := ⟨N - 1, by omega⟩
      have i12 : vp_in (nI k) 12 := pk_in k 12 (by omega)
      refine pk_le mn k (fun z => by omega) (fun z => And.intro i12 ?_)
      rw [kn_at Hr k]
      refine yy_isChosen hn (fun y => br_f kn_10 (nm_r (nI_1 k) (ih (k + 1) N (by omega) (fun j hj hl => ?_) (by omega)))) (fun y => br_t rfl (And.intro i12 (yy_needs (kn_l Hr x) (kn_l Hr k) D (fun nd => br_f kn_10 (k0 (fun F => ?_))) (fun nd => br_t rfl (nm_r (nI_1 k) (ih (k + 1) N (by omega) (fun j hj hl => ?_) (by omega)))))))
      · by_cases w : j = k
        · subst w; exact absurd hl ((hc j (by omega)).mp y)
        · exact M j (by omega) hl
      · refine F k ?_ nd
        apply Classical.byContradiction
        intro w; exact y ((hc k z).mpr w)
      · by_cases w : j = k
        · rw [w]; exact nd
        · exact M j (by omega) hl
  exact ⟨mn + 1, go mn 0 _ (by omega) (fun j hj => by omega) (by omega)⟩
def kg_t (row : Nat → Nat) (o : Option Nat) : Int32 := match o with
  | none => -1
  | some b => nI (row b)
theorem yy_f60 {post : Int32 → SY → Prop} {J : Int32 → Int32 → (Nat → Int32) → (Nat → Int32) → (Nat → Int32) → (Nat → Int32) → (Nat → Int32) → (Nat → Int32) → (Nat → Int32) → (Nat → Int32) → (Nat → Int32) → (Nat → Int32) → (Nat → Int32) → (Nat → Int32) → (Nat → Int32) → (Nat → Int32) → (Nat → Int32) → (Nat → Int32) → (Nat → Int32) → (Nat → Int32) → (Nat → Int32) → (Nat → Int32) → (Nat → Int32) → (Nat → Int32) → (Nat → Int32) → (Nat → Int32) → (Nat → Int32) → (Nat → Int32) → (Nat → Int32) → Prop} {x1 x2 : Int32} {n : Nat} {q : Nat → Nat} {fs : Nat → Int32} (hn : n < 4) (h12 : mn ≤ 12) (Hr : kn_H b_pool row 40) (D : ky_D b_op b_arg b_length b_inCoin b_ins b_outs b_lock b_rewardLock b_many b_holds b_parent b_height oP tk ic ni nu sc rs nh hd pa he)
    (hf : ∀ k, k < mn → fs k = kc_fee ic ni nu b_amount (row k) (kc_av b_amount (fun b => b_worth (120 + b)))) (hc : ∀ k, k < mn → ((∃ i, i < n ∧ cz i = nI (row k)) ↔ ¬ kg_L mn q n k))
    (kn' : kg_b (kg_L mn q n) (kg_F ic ni row mn q n) fs mn = none → wY_forge_167 post x1 x2 (nI n) g_made g_blocks g_arrivals g_tip (nI mn) g_chainLength b_op b_arg b_length b_ins b_inCoin b_inA b_inB b_outs b_amount b_lock b_parent b_work b_rewardLock b_height b_many b_holds b_delivered b_arrived b_pool b_chain b_from b_worth b_within b_spent b_stack b_again cz)
    (ks : ∀ x, kg_b (kg_L mn q n) (kg_F ic ni row mn q n) fs mn = some x → J (nI (n + 1)) (nI (n + 1)) b_op b_arg b_length b_ins b_inCoin b_inA b_inB b_outs b_amount b_lock b_parent b_work b_rewardLock b_height b_many b_holds b_delivered b_arrived b_pool b_chain b_from b_worth b_within b_spent b_stack b_again (upd cz n (nI (row x)))) :
    ∀ (d k N : Nat), k + d = mn → d < N → wY_forge_60 post J x1 x2 (nI n) (nI n) g_made g_blocks g_arrivals g_tip (nI mn) g_chainLength b_op b_arg b_length b_ins b_inCoin b_inA b_inB b_outs b_amount b_lock b_parent b_work b_rewardLock b_height b_many b_holds b_delivered b_arrived b_pool b_chain b_from b_worth b_within b_spent b_stack b_again cz N (kg_t row (kg_b (kg_L mn q n) (kg_F ic ni row mn q n) fs k)) (nI k) := by
  intro d
  induction d with
  | zero =>
    intro k N e hN
    obtain ⟨N, rfl⟩ : ∃ n', N = n' + 1 := ⟨N - 1, by omega⟩
    have ek : k = mn := by omega
    subst ek
    refine pk_le k k (fun _ => ?_) (fun z => by omega)
    cases o : kg_b (kg_L k q n) (kg_F ic ni row k q n) fs k with
    | none => exact br_f (by show ¬ (0 : Int32) ≤ -1; decide) (kn' o)
    | some x =>
      have rl := kn_l Hr x
      exact br_t (nI_pos' (by omega)) (And.intro (pk_in n 4 hn) (nm_r (kn_ux n) (nm_r (nI_1 n) (nm_r (nI_1 n) (ks x o)))))
  | succ d ih =>
    intro k N e hN
    obtain ⟨N, rfl⟩ : ∃ n', N = n' + 1 := ⟨N - 1, by omega⟩
    have go := ih (k + 1) N (by omega) (by omega)
    have i12 : vp_in (nI k) 12 := pk_in k 12 (by omega)
    have er := kn_at Hr k
    refine pk_le mn k (fun z => by omega) (fun z => And.intro i12 ?_)
    rw [er]
    refine yy_isChosen (by omega) (fun y => br_f kn_10 ?_) (fun y => br_t rfl (And.intro i12 (yy_isFree (by omega) h12 z Hr D hc (fun F => br_f kn_10 ?_) (fun F => br_t rfl ?_))))
    · rw [kg_b_f (fun w => (hc k z).mp y w.1)] at go
      exact nm_r (nI_1 k) go
    · have hl : kg_L mn q n k := by
        apply Classical.byContradiction
        intro w; exact y ((hc k z).mpr w)
      cases o : kg_b (kg_L mn q n) (kg_F ic ni row mn q n) fs k with
      | none =>
        rw [kg_b_t ⟨hl, F, fun x hx => by rw [o] at hx; exact nomatch hx⟩] at go
        exact br_t (by show (-1 : Int32) < 0; decide) (And.intro i12 (nm_e (nm_r (nI_1 k) go)))
      | some x =>
        have xl := (kg_b_l _ _ o).1
        have rl := kn_l Hr x
        refine br_f (nI_pos (by omega)) (And.intro i12 (yy_feeOf (kn_l Hr k) D (yy_feeOf rl D ?_)))
        rw [← hf k z, ← hf x (by omega)]
        refine br_c (fun w => ?_) (fun w => ?_)
        · rw [kg_b_f (fun c => Int32.not_lt.mpr w (c.2.2 x o)), o] at go
          exact nm_r (nI_1 k) go
        · rw [kg_b_t ⟨hl, F, fun c hx => by rw [o] at hx; rw [← Option.some.inj hx]; exact Int32.not_le.mp w⟩] at go
          exact And.intro i12 (nm_e (nm_r (nI_1 k) go))
    · rw [kg_b_f (fun w => F w.2.1)] at go
      exact nm_r (nI_1 k) go
end
section
variable {g_made g_blocks g_arrivals g_tip g_chainLength : Int32} {b_op b_arg b_length b_ins b_inCoin b_inA b_inB b_outs b_amount b_lock b_parent b_work b_rewardLock b_height b_many b_holds b_delivered b_arrived b_pool b_chain b_from b_worth b_within b_spent b_stack b_again : Nat → Int32} {oP tk ic ni nu sc rs nh hd pa he : Nat → Nat} {md bk : Nat} {mn : Nat} {row : Nat → Nat}
/-- Y takes them -/
theorem yy_f48 {x1 x2 : Int32} {m : Nat} {q : Nat → Nat} {fs : Nat → Int32} (h12 : mn ≤ 12) (Hr : kn_H b_pool row 40) (inj : ∀ j k, j < mn → k < mn → row j = row k → j = k) (D : ky_D b_op b_arg b_length b_inCoin b_ins b_outs b_lock b_rewardLock b_many b_holds b_parent b_height oP tk ic ni nu sc rs nh hd pa he)
    (hf : ∀ k, k < mn → fs k = kc_fee ic ni nu b_amount (row k) (kc_av b_amount (fun b => b_worth (120 + b)))) (R : kg_R ic ni row mn fs q m) :
    ∀ (d n : Nat) (cz : Nat → Int32), n + d = m → (∀ i, i < n → cz i = nI (row (q i))) → ∃ cz', (∀ i, i < m → cz' i = nI (row (q i))) ∧ ∀ post : Int32 → SY → Prop, wY_forge_167 post x1 x2 (nI m) g_made g_blocks g_arrivals g_tip (nI mn) g_chainLength b_op b_arg b_length b_ins b_inCoin b_inA b_inB b_outs b_amount b_lock b_parent b_work b_rewardLock b_height b_many b_holds b_delivered b_arrived b_pool b_chain b_from b_worth b_within b_spent b_stack b_again cz' → ∀ N, d < N → wY_forge_48 post x1 x2 g_made g_blocks g_arrivals g_tip (nI mn) g_chainLength N (nI n) (nI n) b_op b_arg b_length b_ins b_inCoin b_inA b_inB b_outs b_amount b_lock b_parent b_work b_rewardLock b_height b_many b_holds b_delivered b_arrived b_pool b_chain b_from b_worth b_within b_spent b_stack b_again cz := by
  have m4 := R.1
  have hcz : ∀ n (cz : Nat → Int32), n ≤ m → (∀ i, i < n → cz i = nI (row (q i))) → ∀ k, k < mn → ((∃ i, i < n ∧ cz i = nI (row k)) ↔ ¬ kg_L mn q n k) := fun n cz hn h k hk => by
    constructor
    · rintro ⟨i, a, b⟩ ⟨_, c⟩
      rw [h i a] at b
      have ql := (kg_R_l R (show i < m by omega)).1
      have r1 := kn_l Hr (q i)
      have r2 := kn_l Hr k
      exact c i a (inj _ _ ql hk ((nI_eq (by omega) (by omega)).mp b))
    · intro c
      apply Classical.byContradiction
      intro w
      exact c ⟨hk, fun i hi e => w ⟨i, hi, by rw [h i hi, e]⟩⟩
  intro d
  induction d with
  | zero =>
    intro n cz e h
    have en : n = m := by omega
    subst en
    refine ⟨cz, h, fun post W N hN => ?_⟩
    obtain ⟨N, rfl⟩ : ∃ n', N = n' + 1 := ⟨N - 1, by omega⟩
    refine pk_le 4 n (fun _ => W) (fun z => ⟨mn + 1, ?_⟩)
    exact yy_f60 z h12 Hr D hf (hcz n cz (Nat.le_refl _) h) (fun _ => W) (fun x o => by rw [R.2.2 z] at o; exact nomatch o) mn 0 _ (by omega) (by omega)
  | succ d ih =>
    intro n cz e h
    obtain ⟨cz', h', Q⟩ := ih (n + 1) (upd cz n (nI (row (q n)))) (by omega) (fun i hi => by
      by_cases y : i = n
      · rw [y, pk_us]
      · rw [pk_un y]; exact h i (by omega))
    refine ⟨cz', h', fun post W N hN => ?_⟩
    obtain ⟨N, rfl⟩ : ∃ n', N = n' + 1 := ⟨N - 1, by omega⟩
    refine pk_le 4 n (fun z => by omega) (fun z => ⟨mn + 1, ?_⟩)
    refine yy_f60 z h12 Hr D hf (hcz n cz (by omega) h) (fun o => by rw [R.2.1 n (by omega)] at o; exact nomatch o) (fun x o => ?_) mn 0 _ (by omega) (by omega)
    rw [R.2.1 n (by omega)] at o
    rw [← Option.some.inj o]
    exact Q post W N (by omega)
end
section
variable {g_made g_blocks g_arrivals g_tip g_pooled g_chainLength : Int32} {b_op b_arg b_length b_ins b_inCoin b_inA b_inB b_outs b_amount b_lock b_parent b_work b_rewardLock b_height b_many b_delivered b_arrived b_pool b_chain b_from b_worth b_within b_spent b_stack b_again b_chosen : Nat → Int32} {hl : Nat → Int32}
theorem yy_f182 {post : Int32 → SY → Prop} {b m : Nat} {v : Nat → Int32} (hb : b < 32) (hm : m ≤ 4) (hv : ∀ i, i < m → b_chosen i = v i)
    (hp : wpY_arrive (fun _ u => match u with | (g_made, g_blocks, g_arrivals, g_tip, g_pooled, g_chainLength, b_op, b_arg, b_length, b_ins, b_inCoin, b_inA, b_inB, b_outs, b_amount, b_lock, b_parent, b_work, b_rewardLock, b_height, b_many, b_holds, b_delivered, b_arrived, b_pool, b_chain, b_from, b_worth, b_within, b_spent, b_stack, b_again, b_chosen) => (post (nI b) (g_made, g_blocks, g_arrivals, g_tip, g_pooled, g_chainLength, b_op, b_arg, b_length, b_ins, b_inCoin, b_inA, b_inB, b_outs, b_amount, b_lock, b_parent, b_work, b_rewardLock, b_height, b_many, b_holds, b_delivered, b_arrived, b_pool, b_chain, b_from, b_worth, b_within, b_spent, b_stack, b_again, b_chosen))) (g_made, g_blocks, g_arrivals, g_tip, g_pooled, g_chainLength, b_op, b_arg, b_length, b_ins, b_inCoin, b_inA, b_inB, b_outs, b_amount, b_lock, b_parent, b_work, b_rewardLock, b_height, upd b_many b (nI m), kg_h hl v b m, upd b_delivered b 1, b_arrived, b_pool, b_chain, b_from, b_worth, b_within, b_spent, b_stack, b_again, b_chosen)) :
    ∀ (d k N : Nat), k + d = m → d < N → wY_forge_182 post (nI m) (nI b) g_made g_blocks g_arrivals g_tip g_pooled g_chainLength N (nI k) b_op b_arg b_length b_ins b_inCoin b_inA b_inB b_outs b_amount b_lock b_parent b_work b_rewardLock b_height b_many (kg_h hl v b k) b_delivered b_arrived b_pool b_chain b_from b_worth b_within b_spent b_stack b_again b_chosen := by
  intro d
  induction d with
  | zero =>
    intro k N e hN
    obtain ⟨N, rfl⟩ : ∃ n', N = n' + 1 := ⟨N - 1, by omega⟩
    have ek : k = m := by omega
    subst ek
    exact pk_le k k (fun _ => And.intro (pk_in b 33 (by omega)) (nm_r (kn_ux b) (And.intro (pk_in b 32 hb) (nm_r (kn_uv b kn_v1) hp)))) (fun z => by omega)
  | succ d ih =>
    intro k N e hN
    obtain ⟨N, rfl⟩ : ∃ n', N = n' + 1 := ⟨N - 1, by omega⟩
    have e2 : 4 * nI b + nI k = nI (4 * b + k) := by rw [kn_m4, nI_add]
    refine pk_le m k (fun z => by omega) (fun z => And.intro (pk_in k 4 (by omega)) (And.intro (pk_in (4 * b + k) 132 (by omega) e2) (nm_r (e' := kg_h hl v b (k + 1)) ?_ (nm_r (nI_1 k) (ih (k + 1) N (by omega) (by omega))))))
    rw [nI_clamp (show k < 2 ^ 31 by omega), hv k z, kn_ux (4 * b + k) e2]; rfl
end
end
section
/-! ===== forge ===== -/
theorem i_vc_forge {k : Nat} {u : SX} {v : SY} (I : i_Rel k u v) (hk : k + 4 ≤ 2048) (v1 : Int32) (v2 : Int32) : wpX_forge (fun r u' => wpY_forge (fun r' v' => r' = r ∧ i_Rel (k + 4) u' v') v v1 v2) u v1 v2 := by
  refine I (fun u v => wpX_forge (fun r u' => wpY_forge (fun r' v' => r' = r ∧ i_Rel (k + 4) u' v') v v1 v2) u v1 v2) ?_
  clear I u v
  intro md bk an tp mn oP tk ic ni nu sc rs nh hd pa he wk ar ch row K fe cl a_op a_number a_tokens a_used a_timed a_inCoin a_inA a_inB a_ins a_amount a_script a_outs a_parent a_height a_work a_holds a_held a_rewardScript a_delivered st fi rw rg wr cn ra fs tr ag bf aa b_parent b_work ba yc fr w wi sp ys ya yo N D S B Z
  have b32 := kd_bk N
  have T := kd_T N
  have DY := dx_dy D B.1 B.2.1
  obtain ⟨t1, t2, t3, t4⟩ := zz_top N Z
  have R0 : i_Rel (k + 4) (nI md, nI bk, nI an, nI tp, nI mn, 0, fe, a_op, a_number, a_tokens, a_used, a_timed, st, a_inCoin, a_inA, a_inB, a_ins, a_amount, a_script, a_outs, fi, a_parent, a_height, a_work, a_holds, a_held, a_rewardScript, rw, a_delivered, aa, rg, wr, cn, K.1, K.2.1, K.2.2.1, ra, fs, tr, ag, bf) (nI md, nI bk, nI an, nI (ch tp), nI mn, cl, a_op, a_number, a_tokens, a_ins, a_inCoin, a_inA, a_inB, a_outs, a_amount, a_script, b_parent, b_work, a_rewardScript, a_height, a_holds, a_held, a_delivered, ba, ra, yc, fr, w, wi, sp, ys, ya, yo) := fun P h => h md bk an tp mn oP tk ic ni nu sc rs nh hd pa he wk ar ch row K fe cl a_op a_number a_tokens a_used a_timed a_inCoin a_inA a_inB a_ins a_amount a_script a_outs a_parent a_height a_work a_holds a_held a_rewardScript a_delivered st fi rw rg wr cn ra fs tr ag bf aa b_parent b_work ba yc fr w wi sp ys ya yo N D S B Z
  refine br_c (fun z1 => br_t z1 ⟨rfl, R0⟩) (fun z1 => br_c (fun z2 => br_f z1 (br_t z2 ⟨rfl, R0⟩)) (fun z2 => ?_))
  obtain ⟨x, hx, rfl⟩ : ∃ x, x ≤ 9 ∧ v1 = nI x := nI_of2 (M := 9) (n := 9) (by decide) (fun q => z1 (Int32.lt_trans q (by decide))) (Int32.not_lt.mp z2)
  rcases pk_ix v2 (n := 8) (by omega) with q | q | ⟨s, hs, rfl⟩
  · refine xx_no0 (Or.inl q) ?_
    refine br_f kn_10 (br_f z1 (br_f z2 ?_))
    refine yy_in0 (Or.inl q) ?_
    exact br_t rfl ⟨rfl, R0⟩
  · refine xx_no0 (y := 8) (Or.inr q) ?_
    refine br_f kn_10 (br_f z1 (br_f z2 ?_))
    refine yy_in0 (y := 8) (Or.inr q) ?_
    exact br_t rfl ⟨rfl, R0⟩
  refine xx_no1 (n := 8) hs (by omega) ?_
  refine br_t rfl (pk_eq bk 32 (fun z => br_f z1 (br_f z2 ?_)) (fun z => ?_))
  · refine yy_in1 (n := 8) hs (by omega) ?_
    exact br_f kn_10 (pk_eq bk 32 (fun _ => ⟨rfl, R0⟩) (fun q => absurd z q))
  have hb : bk < 32 := by omega
  have hep : he (ch tp) + 1 < 32 := by have := kc_T_h T (ch tp + 1) (ch tp) (by omega) t1; omega
  have wp := B.2.2.2.2.2.2.2.2.2.2.2 (ch tp) t1
  have nb : nh bk = 0 := S.2.2.2.2.2.2.2.1 bk (Nat.le_refl _) hb
  have db : a_delivered bk = 0 := S.2.2.2.2.2.2.2.2 bk (Nat.le_refl _)
  have P := Z.2.2.2.2.2.1
  have Hr := Z.2.2.2.2.1
  have X := Z.2.2.2.2.2.2.1
  have p12 := P.1
  have ez : upd a_holds bk 0 = a_holds := kn_ui (by rw [kn_e (dx_nh D) bk, nb]; rfl)
  obtain ⟨w', ys', yc', A', hc', W'⟩ := zz_walk (a_delivered := a_delivered) (cl := cl) (yc := yc) (w := w) (ys := ys) (ya := ya) (yo := yo) N D B Z
  have hf : ∀ j, j < mn → fs j = kc_fee ic ni nu a_amount (row j) (kc_av a_amount (fun b => w' (120 + b))) := fun j hj => by
    rw [X.1 j hj]
    refine kp_fee_eq (kd_D N) (fun i h1 h2 => ?_) Z.2.1.2.2.1 A'
    rcases P.2.2.2.1 j hj i h1 h2 with q | q
    · exact Or.inr q
    · exact Or.inl q.1
  -- the picks
  obtain ⟨q, m, R⟩ := kg_ex (ic := ic) (ni := ni) (row := row) (mn := mn) (fs := fs) 4 0 (fun _ => 0) rfl (fun n' h => by omega)
  have m4 := R.1
  obtain ⟨N0, D0, _, _, _⟩ := zz_new (x := x) (nh' := nh) (hd' := hd) (ah := a_holds) (ad := a_held) hb t1 (show x < 10 by omega) hs N D S B Z (fun _ _ => rfl) (fun _ _ _ => rfl) S.2.2.2.2.2.2.1 (fun j hj => by omega) (fun _ _ _ _ => rfl) (dx_nh D) (dx_hd D)
  obtain ⟨N', D', S', B', Z'⟩ := zz_new (x := x) (nh' := kn_u nh bk m) (hd' := kg_h hd (fun i => row (q i)) bk m) (ah := upd a_holds bk (nI m)) (ad := kg_h a_held (fun i => nI (row (q i))) bk m) hb t1 (show x < 10 by omega) hs N D S B (zz_T N Z)
    (fun b h => kn_un (by omega)) (fun b h1 h2 => kn_un (by omega))
    (fun j hj => by rw [kn_un (by omega)] at hj; rw [kg_h_out m (by omega)]; exact S.2.2.2.2.2.2.1 j hj)
    (fun j hj => by rw [kn_us] at hj; rw [kg_h_in m j hj]; exact (P.2.1 _ (kg_R_l R hj).1).1)
    (fun b hb' j hj => kg_h_out m (by have := kn_l (dx_nh D) b; omega)) (kn_upd (dx_nh D) rfl (by omega)) (kg_h_H (dx_hd D) m (fun i _ => kn_l Hr _))
  have S2 : zr_S md (bk + 1) oP tk ic ni nu sc (kn_u rs bk s) (kn_u nh bk m) (kg_h hd (fun i => row (q i)) bk m) (upd a_used s 1) a_timed a_amount (upd a_delivered bk 1) := by
    obtain ⟨s1, s2, s3, s4, s5, s6, s7, s8, s9⟩ := S'
    exact ⟨s1, s2, s3, s4, s5, s6, s7, s8, fun y hy => by rw [pk_un (by omega)]; exact s9 y hy⟩
  obtain ⟨cz', hcz, Q48⟩ := yy_f48 (g_made := nI md) (g_blocks := nI bk) (g_arrivals := nI an) (g_tip := nI (ch tp)) (g_chainLength := nI (tp + 1)) (b_op := a_op) (b_arg := a_number) (b_length := a_tokens) (b_ins := a_ins) (b_inCoin := a_inCoin) (b_inA := a_inA) (b_inB := a_inB) (b_outs := a_outs) (b_amount := a_amount) (b_lock := a_script) (b_parent := b_parent) (b_work := b_work) (b_rewardLock := a_rewardScript) (b_height := a_height) (b_many := a_holds) (b_holds := a_held) (b_delivered := a_delivered) (b_arrived := ba) (b_pool := ra) (b_chain := yc') (b_from := K.1) (b_worth := w') (b_within := K.2.2.1) (b_spent := K.2.1) (b_stack := ys') (b_again := ya) (x1 := nI x) (x2 := nI s) p12 Hr P.2.2.1 DY hf R m 0 yo (by omega) (fun i hi => by omega)
  obtain ⟨an', tp', mn', ar', ch', row', K', fe', cl', st', fi', rw', rg', wr', cn', ra', fs', tr', ag', bf', yc2, fr', w2, wi', sp', ys2, ya', aa', ba', g1, g2, g3, GX, GY⟩ := zz_arrive (a_used := upd a_used s 1) (a_delivered := upd a_delivered bk 1) (b_parent := upd b_parent bk (nI (ch tp))) (b_work := upd b_work bk (nI x)) (yo := cz') (an0 := an) N' D' 33 an 0 tp mn ar ch row K fe (nI (tp + 1)) st fi rw rg wr cn ra fs tr ag bf yc' K.1 w' K.2.2.1 K.2.1 ys' ya aa ba (by have := kz_cnt_le (fun b => ar b = 0) 32; omega) (Nat.le_refl _) B' Z'
  have ech : cn (nI tp).toNatClampNeg = nI (ch tp) := kn_at Z.1 tp
  refine And.intro (pk_in tp 32 t3) ?_
  rw [ech]
  refine xx_begin hb t1 (by omega) hs hep (by omega) D B.2.2.1 (nm_e ?_)
  have bits : ∀ j, bt (((1 : Int32) <<< (nI mn &&& 31)) - 1) j = true ↔ kg_L mn q 0 j := fun j => by
    by_cases j32 : j < 32
    · rw [kg_m0 mn (by omega) j j32, decide_eq_true_iff]
      exact ⟨fun h => ⟨h, fun i hi => by omega⟩, fun h => h.1⟩
    · rw [b_big (by omega)]
      constructor
      · intro h; exact nomatch h
      · rintro ⟨a, _⟩; omega
  have e0 : upd a_holds bk (nI 0) = a_holds := ez
  have F := xx_f68 (f_made := nI md) (f_blocks := nI (bk + 1)) (f_arrivals := nI an) (f_top := nI tp) (f_agains := 0) (f_feeNow := fe) (a_used := upd a_used s 1) (a_stack := st) (a_inA := a_inA) (a_inB := a_inB) (a_amount := a_amount) (a_fitting := fi) (a_work := upd a_work bk (nI (wk (ch tp) + x))) (a_reward := rw) (a_delivered := a_delivered) (a_arrival := aa) (a_right := rg) (a_wrong := wr) (a_chain := cn) (a_born := K.1) (a_spent := K.2.1) (a_since := K.2.2.1) (a_row := ra) (a_fees := fs) (a_taker := tr) (a_again := ag) (a_before := bf) (b := bk) hb p12 Hr P.2.2.1 D0 R m 0 (((1 : Int32) <<< (nI mn &&& 31)) - 1) (by omega) bits (fun r u' => wpY_forge (fun r' v' => r' = r ∧ i_Rel (k + 4) u' v') (nI md, nI bk, nI an, nI (ch tp), nI mn, cl, a_op, a_number, a_tokens, a_ins, a_inCoin, a_inA, a_inB, a_outs, a_amount, a_script, b_parent, b_work, a_rewardScript, a_height, a_holds, a_held, a_delivered, ba, ra, yc, fr, w, wi, sp, ys, ya, yo) (nI x) (nI s)) ?_ (m + 1) (by omega) (fun r => ∃ n68 : Nat, wX_forge_68 (fun r u' => wpY_forge (fun r' v' => r' = r ∧ i_Rel (k + 4) u' v') (nI md, nI bk, nI an, nI (ch tp), nI mn, cl, a_op, a_number, a_tokens, a_ins, a_inCoin, a_inA, a_inB, a_outs, a_amount, a_script, b_parent, b_work, a_rewardScript, a_height, a_holds, a_held, a_delivered, ba, ra, yc, fr, w, wi, sp, ys, ya, yo) (nI x) (nI s)) (nI bk) (nI md) (nI (bk + 1)) (nI an) (nI tp) (nI mn) 0 fe n68 (((1 : Int32) <<< (nI mn &&& 31)) - 1) r a_op a_number a_tokens (upd a_used s 1) a_timed st a_inCoin a_inA a_inB a_ins a_amount a_script a_outs fi (upd a_parent bk (nI (ch tp))) (upd a_height bk (nI (he (ch tp) + 1))) (upd a_work bk (nI (wk (ch tp) + x))) a_holds a_held (upd a_rewardScript bk (nI s)) rw a_delivered aa rg wr cn K.1 K.2.1 K.2.2.1 ra fs tr ag bf) (fun r h => ⟨m + 1, by rw [e0] at h; exact h⟩)
  · rw [e0] at F
    exact F
  · unfold wX_forge_133 wpX_deliver
    refine xx_no1 (show bk < bk + 1 by omega) (by omega) ?_
    have ecl : (nI bk).toNatClampNeg = bk := nI_clamp (by omega)
    refine br_t rfl (And.intro (pk_in bk 32 hb) ?_)
    rw [ecl]
    refine br_t db (And.intro (pk_in bk 32 hb) (nm_r (e' := upd a_delivered bk 1) rfl ?_))
    refine GX _ ?_ 34 (by omega) _ (fun r h => ⟨34, h⟩)
    refine br_f z1 (br_f z2 ?_)
    refine yy_in1 (n := 8) hs (by omega) ?_
    refine br_f kn_10 (pk_eq bk 32 (fun y => absurd y z) (fun _ => W' _ ⟨m + 1, Q48 _ ?_ _ (by omega)⟩))
    unfold wY_forge_167
    refine yy_add hb t1 DY ⟨m + 1, ?_⟩
    rw [ez]
    have F2 := yy_f182 (g_made := nI md) (g_blocks := nI (bk + 1)) (g_arrivals := nI an) (g_tip := nI (ch tp)) (g_pooled := nI mn) (g_chainLength := nI (tp + 1)) (b_op := a_op) (b_arg := a_number) (b_length := a_tokens) (b_ins := a_ins) (b_inCoin := a_inCoin) (b_inA := a_inA) (b_inB := a_inB) (b_outs := a_outs) (b_amount := a_amount) (b_lock := a_script) (b_parent := upd b_parent bk (nI (ch tp))) (b_work := upd b_work bk (nI x)) (b_rewardLock := upd a_rewardScript bk (nI s)) (b_height := upd a_height bk (nI (he (ch tp) + 1))) (b_many := a_holds) (b_delivered := a_delivered) (b_arrived := ba) (b_pool := ra) (b_chain := yc') (b_from := K.1) (b_worth := w') (b_within := K.2.2.1) (b_spent := K.2.1) (b_stack := ys') (b_again := ya) (b_chosen := cz') (hl := a_held) (post := fun r' v' => r' = nI bk ∧ i_Rel (k + 4) (nI md, nI (bk + 1), nI an', nI tp', nI mn', 0, fe', a_op, a_number, a_tokens, upd a_used s 1, a_timed, st', a_inCoin, a_inA, a_inB, a_ins, a_amount, a_script, a_outs, fi', upd a_parent bk (nI (ch tp)), upd a_height bk (nI (he (ch tp) + 1)), upd a_work bk (nI (wk (ch tp) + x)), upd a_holds bk (nI m), kg_h a_held (fun i => nI (row (q i))) bk m, upd a_rewardScript bk (nI s), rw', upd a_delivered bk 1, aa', rg', wr', cn', K'.1, K'.2.1, K'.2.2.1, ra', fs', tr', ag', bf') v') (v := fun i => nI (row (q i))) hb m4 hcz ⟨34, GY _ ⟨rfl, ?_⟩ 34 (by omega)⟩ m 0 (m + 1) (by omega) (by omega)
    · exact F2
    · exact fun P h => h md (bk + 1) an' tp' mn' oP tk ic ni nu sc (kn_u rs bk s) (kn_u nh bk m) (kg_h hd (fun i => row (q i)) bk m) (kn_u pa bk (ch tp)) (kn_u he bk (he (ch tp) + 1)) (kn_u wk bk (wk (ch tp) + x)) ar' ch' row' K' fe' cl' a_op a_number a_tokens (upd a_used s 1) a_timed a_inCoin a_inA a_inB a_ins a_amount a_script a_outs (upd a_parent bk (nI (ch tp))) (upd a_height bk (nI (he (ch tp) + 1))) (upd a_work bk (nI (wk (ch tp) + x))) (upd a_holds bk (nI m)) (kg_h a_held (fun i => nI (row (q i))) bk m) (upd a_rewardScript bk (nI s)) (upd a_delivered bk 1) st' fi' rw' rg' wr' cn' ra' fs' tr' ag' bf' aa' (upd b_parent bk (nI (ch tp))) (upd b_work bk (nI x)) ba' yc2 fr' w2 wi' sp' ys2 ya' cz' N' D' S2 g2 g3
end
section
/-! ===== the beginning ===== -/
section
variable {f_made f_blocks f_arrivals f_top f_many f_agains f_feeNow : Int32} {a_op a_number a_tokens a_used a_timed a_stack a_inCoin a_inA a_inB a_ins a_amount a_script a_outs a_fitting a_parent a_height a_work a_holds a_held a_rewardScript a_reward a_delivered a_arrival a_right a_wrong a_chain a_spent a_row a_fees a_again a_before : Nat → Int32}
theorem xx_i355 {post : SX → Prop} {bo tr : Nat → Int32} : ∀ (m i : Nat) (f : Nat → Int32) (n : Nat), i + m = 40 → m < n →
    post (f_made, f_blocks, f_arrivals, f_top, f_many, f_agains, f_feeNow, a_op, a_number, a_tokens, a_used, a_timed, a_stack, a_inCoin, a_inA, a_inB, a_ins, a_amount, a_script, a_outs, a_fitting, a_parent, a_height, upd a_work 0 1, a_holds, a_held, a_rewardScript, upd a_reward 0 64, upd a_delivered 0 1, upd a_arrival 0 1, upd a_right 0 1, a_wrong, a_chain, upd bo 120 0, a_spent, kc_sg (fun j => j) (fun _ => -1) m i f, a_row, a_fees, tr, a_again, a_before) →
    wX_init_355 post f_made f_blocks f_arrivals f_top f_many f_agains f_feeNow n (nI i) a_op a_number a_tokens a_used a_timed a_stack a_inCoin a_inA a_inB a_ins a_amount a_script a_outs a_fitting a_parent a_height a_work a_holds a_held a_rewardScript a_reward a_delivered a_arrival a_right a_wrong a_chain bo a_spent f a_row a_fees tr a_again a_before := by
  intro m
  induction m with
  | zero =>
    intro i f n e hn hp
    obtain ⟨n, rfl⟩ : ∃ n', n = n' + 1 := ⟨n - 1, by omega⟩
    exact pk_le 40 i (fun _ => nm_r (e' := upd a_work 0 1) (by rw [kn_vs 1]; rfl) (nm_r (e' := upd a_delivered 0 1) rfl (nm_r (e' := upd a_arrival 0 1) (by rw [kn_vb 1]; rfl) (nm_r (e' := upd bo 120 0) (by rw [kn_vb 0]; rfl) (nm_e (nm_r (e' := upd a_right 0 1) rfl hp)))))) (fun z => by omega)
  | succ m ih =>
    intro i f n e hn hp
    obtain ⟨n, rfl⟩ : ∃ n', n = n' + 1 := ⟨n - 1, by omega⟩
    exact pk_le 40 i (fun z => by omega) (fun _ => And.intro (pk_in i 40 (by omega)) (nm_r (kn_uv i kn_vm1) (nm_r (nI_1 i) (ih (i + 1) _ n (by omega) (by omega) hp))))
theorem xx_i326 {post : SX → Prop} {si : Nat → Int32} : ∀ (m i : Nat) (bo tr : Nat → Int32) (n : Nat), i + m = 152 → m < n →
    (∃ n, wX_init_355 post f_made f_blocks f_arrivals f_top f_many f_agains f_feeNow n 0 a_op a_number a_tokens a_used a_timed a_stack a_inCoin a_inA a_inB a_ins a_amount a_script a_outs a_fitting a_parent a_height a_work a_holds a_held a_rewardScript a_reward a_delivered a_arrival a_right a_wrong a_chain (kc_sg (fun j => j) (fun _ => -1) m i bo) a_spent si a_row a_fees (kc_sg (fun j => j) (fun _ => -1) m i tr) a_again a_before) →
    wX_init_326 post f_made f_blocks f_arrivals f_top f_many f_agains f_feeNow n (nI i) a_op a_number a_tokens a_used a_timed a_stack a_inCoin a_inA a_inB a_ins a_amount a_script a_outs a_fitting a_parent a_height a_work a_holds a_held a_rewardScript a_reward a_delivered a_arrival a_right a_wrong a_chain bo a_spent si a_row a_fees tr a_again a_before := by
  intro m
  induction m with
  | zero =>
    intro i bo tr n e hn hp
    obtain ⟨n, rfl⟩ : ∃ n', n = n' + 1 := ⟨n - 1, by omega⟩
    exact pk_le 152 i (fun _ => hp) (fun z => by omega)
  | succ m ih =>
    intro i bo tr n e hn hp
    obtain ⟨n, rfl⟩ : ∃ n', n = n' + 1 := ⟨n - 1, by omega⟩
    exact pk_le 152 i (fun z => by omega) (fun _ => And.intro (pk_in i 152 (by omega)) (nm_r (kn_uv i kn_vm1) (And.intro (pk_in i 152 (by omega)) (nm_r (kn_uv i kn_vm1) (nm_r (nI_1 i) (ih (i + 1) _ _ n (by omega) (by omega) hp))))))
end
section
variable {g_made g_blocks g_arrivals g_tip g_pooled g_chainLength : Int32} {b_op b_arg b_length b_ins b_inCoin b_inA b_inB b_outs b_amount b_lock b_parent b_work b_rewardLock b_height b_many b_holds b_delivered b_pool b_chain b_from b_worth b_within b_spent b_stack b_again b_chosen : Nat → Int32}
theorem yy_i257 {post : SY → Prop} : ∀ (m i : Nat) (f : Nat → Int32) (n : Nat), i + m = 32 → m < n → post (g_made, g_blocks, g_arrivals, g_tip, g_pooled, g_chainLength, b_op, b_arg, b_length, b_ins, b_inCoin, b_inA, b_inB, b_outs, b_amount, b_lock, b_parent, b_work, b_rewardLock, b_height, b_many, b_holds, b_delivered, kc_sg (fun j => j) (fun _ => -1) m i f, b_pool, b_chain, b_from, b_worth, b_within, b_spent, b_stack, b_again, b_chosen) → wY_init_257 post g_made g_blocks g_arrivals g_tip g_pooled g_chainLength n (nI i) b_op b_arg b_length b_ins b_inCoin b_inA b_inB b_outs b_amount b_lock b_parent b_work b_rewardLock b_height b_many b_holds b_delivered f b_pool b_chain b_from b_worth b_within b_spent b_stack b_again b_chosen := by
  intro m
  induction m with
  | zero =>
    intro i f n e hn hp
    obtain ⟨n, rfl⟩ : ∃ n', n = n' + 1 := ⟨n - 1, by omega⟩
    exact pk_le 32 i (fun _ => hp) (fun z => by omega)
  | succ m ih =>
    intro i f n e hn hp
    obtain ⟨n, rfl⟩ : ∃ n', n = n' + 1 := ⟨n - 1, by omega⟩
    exact pk_le 32 i (fun z => by omega) (fun _ => And.intro (pk_in i 32 (by omega)) (nm_r (kn_ux i) (nm_r (nI_1 i) (ih (i + 1) _ n (by omega) (by omega) hp))))
end
def zi_us : Nat → Int32 := upd (upd (upd (upd (upd (upd (upd (upd (fun _ => 0) 0 (vp_nar .boolean 1)) 1 (vp_nar .boolean 0)) 2 (vp_nar .boolean 0)) 3 (vp_nar .boolean 0)) 4 (vp_nar .boolean 0)) 5 (vp_nar .boolean 0)) 6 (vp_nar .boolean 0)) 7 (vp_nar .boolean 0)
theorem zi_us_B : kn_B zi_us := kn_Bu (kn_Bu (kn_Bu (kn_Bu (kn_Bu (kn_Bu (kn_Bu (kn_Bu kn_B0 (Or.inr rfl)) (Or.inl rfl)) (Or.inl rfl)) (Or.inl rfl)) (Or.inl rfl)) (Or.inl rfl)) (Or.inl rfl)) (Or.inl rfl)
theorem zi_us_v : ∀ s, s < 8 → (¬ zi_us s = 0 ↔ s = 0) := by decide +kernel
theorem zi_base : kc_base 0 + 0 = 64 := by decide +kernel
theorem zi_N : kd_N (fun _ => 0) (fun _ => 0) (fun _ => 0) (fun _ => 0) (fun _ => 0) (fun _ => 0) (fun _ => 0) (fun _ => 0) (fun _ => 0) (fun _ => 0) (fun _ => 0) 0 1 :=
  ⟨fun _ => by (try dsimp only at *); omega, fun _ => by (try dsimp only at *); omega, fun _ => by (try dsimp only at *); omega, fun _ => by (try dsimp only at *); omega, fun _ => by (try dsimp only at *); omega, fun _ => by (try dsimp only at *); omega, fun _ => by (try dsimp only at *); omega, fun _ => by (try dsimp only at *); omega, fun _ => by (try dsimp only at *); omega, by (try dsimp only at *); omega, ⟨by (try dsimp only at *); omega, by (try dsimp only at *); omega, rfl, rfl, fun b h1 h2 => by (try dsimp only at *); omega⟩, fun b hb k hk => by (try dsimp only at *); omega, rfl, fun t ht => by (try dsimp only at *); omega⟩
theorem zi_D : kx_D (fun _ => 0) (fun _ => 0) (fun _ => 0) (fun _ => 0) (fun _ => 0) (fun _ => 0) (fun _ => 0) (fun _ => 0) (fun _ => 0) (fun _ => 0) (fun _ => 0) (fun _ => 0) (fun _ => 0) (fun _ => 0) (fun _ => 0) (fun _ => 0) (fun _ => 0) (fun _ => 0) (fun _ => 0) (fun _ => 0) (fun _ => 0) (fun _ => 0) (fun _ => 0) (fun _ => 0) :=
  ⟨kn_0 (by (try dsimp only at *); omega), fun k hk => by (try dsimp only at *); omega, kn_0 (by (try dsimp only at *); omega), fun s _ _ k h1 h2 => by (try dsimp only at *); omega, kn_0 (by (try dsimp only at *); omega), kn_0 (by (try dsimp only at *); omega), kn_0 (by (try dsimp only at *); omega), kn_0 (by (try dsimp only at *); omega), kn_0 (by (try dsimp only at *); omega), kn_0 (by (try dsimp only at *); omega), kn_0 (by (try dsimp only at *); omega), kn_0 (by (try dsimp only at *); omega), kn_0 (by (try dsimp only at *); omega)⟩
theorem zi_S : zr_S 0 1 (fun _ => 0) (fun _ => 0) (fun _ => 0) (fun _ => 0) (fun _ => 0) (fun _ => 0) (fun _ => 0) (fun _ => 0) (fun _ => 0) zi_us (fun _ => 0) (fun _ => 0) (upd (fun _ => 0) 0 1) := by
  refine ⟨zi_us_B, kn_B0, ⟨fun _ => 0, kn_0 (by (try dsimp only at *); omega)⟩, fun s hs => ?_, fun t ht i h1 h2 => by (try dsimp only at *); omega, fun i j h1 h2 => by (try dsimp only at *); omega, fun k hk => by (try dsimp only at *); omega, fun _ _ _ => rfl, fun b hb => by rw [pk_un (by (try dsimp only at *); omega)]⟩
  rw [zi_us_v s hs]
  constructor
  · intro h; exact Or.inl ⟨0, by (try dsimp only at *); omega, h.symm⟩
  · rintro (⟨b, _, h⟩ | ⟨t, h, _⟩)
    · exact h.symm
    · omega
theorem zi_B : zr_B 1 1 (fun _ => 0) (kn_u (fun _ => 0) 0 1) (kn_u (fun _ => 0) 0 1) (fun _ => 0) (upd (fun _ => 0) 0 1) (upd (fun _ => 0) 0 1) (upd (fun _ => 0) 0 (-1)) (upd (fun _ => 0) 0 1) (kc_sg (fun j => j) (fun _ => -1) 31 1 (fun _ => 0)) := by
  refine ⟨pk_us, fun i hi => by rw [pk_un (by (try dsimp only at *); omega)], kn_upd (kn_0 (by (try dsimp only at *); omega)) rfl (by (try dsimp only at *); omega), ⟨by rw [pk_us, kn_us]; rfl, fun b h1 h2 => by (try dsimp only at *); omega⟩, kn_upd (kn_0 (by (try dsimp only at *); omega)) rfl (by (try dsimp only at *); omega), fun b hb => ?_, by rw [kn_us]; omega, fun b c hb hc _ _ => by (try dsimp only at *); omega, fun b => ?_, ?_, fun b hb => by rw [kn_un (by (try dsimp only at *); omega)], fun b hb => ?_⟩
  · by_cases q : b = 0
    · subst q
      rw [kc_sg_out _ _ _ (fun j h1 h2 => by (try dsimp only at *); omega), kn_us]; decide
    · rw [kc_sg_in _ _ _ ⟨b, by (try dsimp only at *); omega, by (try dsimp only at *); omega, rfl⟩, kn_un q]; decide
  · by_cases q : b = 0
    · rw [q, kn_us]; omega
    · rw [kn_un q]; omega
  · have e1 := kz_cnt_add (P := fun _ => False) (a := 0) (N := 32) (fun h => h) (by (try dsimp only at *); omega)
    have e2 : kz_cnt (fun _ => False) 32 = 0 := cn_F 32
    rw [e2] at e1
    refine Eq.symm (Eq.trans (kz_cnt_eq (Q := fun k => False ∨ k = 0) (fun x hx => ?_)) e1)
    by_cases q : x = 0
    · rw [q, kn_us]; exact ⟨fun _ => Or.inr rfl, fun _ => by (try dsimp only at *); omega⟩
    · rw [kn_un q]; exact ⟨fun h => absurd rfl h, fun h => h.elim False.elim (fun y => absurd y q)⟩
  · rw [show b = 0 by (try dsimp only at *); omega, kn_us]; omega
theorem zi_Z : zr_D (kc_W (fun _ => 0) (fun _ => 0) (fun _ => 0) (fun _ => 0) (kf_fit (fun _ => 0) (fun _ => 0) (fun _ => 0) (fun _ => 0) (fun _ => 0) (fun _ => 0) (fun _ => 0) (fun _ => 0)) (fun _ => 0) (fun _ => 0) (fun _ => 0) (fun _ => 0)) (kf_C 0 (fun _ => 0) (fun _ => 0) (fun i => kx_s (fun _ => 0) (fun _ => 0) ((fun _ => 0) i)) (kf_fit (fun _ => 0) (fun _ => 0) (fun _ => 0) (fun _ => 0) (fun _ => 0) (fun _ => 0) (fun _ => 0) (fun _ => 0))) 1 0 (fun _ => 0) (fun _ => 0) (fun _ => 0) (fun _ => 0) (fun _ => 0) (fun _ => 0) 0 0 (fun _ => 0) (fun _ => 0) (kc_fin 0 0 (kc_K0, 0)) (fun _ => 0) (upd (fun _ => 0) 0 64) (upd (fun _ => 0) 0 1) (fun _ => 0) (fun _ => 0) (fun _ => 0) (fun _ => 0) (kc_sg (fun j => j) (fun _ => -1) 152 0 (fun _ => 0)) (fun _ => 0) (fun _ => 0) (fun _ => 0) := by
  have W0 := kc_W_zero (am := fun _ => 0) (fit := kf_fit (fun _ => 0) (fun _ => 0) (fun _ => 0) (fun _ => 0) (fun _ => 0) (fun _ => 0) (fun _ => 0) (fun _ => 0)) zi_N
  have wo : (kc_fin 0 0 (kc_K0, 0)).2.2.2 (120 + 0) = 64 := by
    show upd (fun _ => 0) (120 + 0) (kc_base 0 + 0) (120 + 0) = 64
    rw [pk_us]; exact zi_base
  refine ⟨kn_0 (by (try dsimp only at *); omega), ⟨⟨fun h hh => ⟨by (try dsimp only at *); omega, by (try dsimp only at *); omega⟩, fun h hh => rfl⟩, W0, fun c hc z => ?_, fun h hh => pk_us⟩, ⟨fun b => ?_, fun b => Or.inl rfl⟩, fun i => ⟨fun _ => rfl, fun _ => Or.inl rfl⟩, kn_0 (by (try dsimp only at *); omega), ⟨by (try dsimp only at *); omega, fun k hk => by (try dsimp only at *); omega, fun j k hj => by (try dsimp only at *); omega, fun k hk => by (try dsimp only at *); omega, fun j k c hj => by (try dsimp only at *); omega⟩, ⟨fun k hk => by (try dsimp only at *); omega, fun c hc => Or.inl ⟨kc_sg_in _ _ _ ⟨c, by (try dsimp only at *); omega, by (try dsimp only at *); omega, rfl⟩, fun k hk => by (try dsimp only at *); omega⟩⟩, ⟨fun _ _ => ⟨rfl, rfl⟩, fun _ _ => rfl⟩⟩
  · have z' : ¬ upd kc_K0.1 (120 + 0) (nI 0) c < 0 := z
    by_cases q : c = 120
    · subst q
      rw [show (kc_fin 0 0 (kc_K0, 0)).2.2.2 120 = 64 from wo]
      unfold kc_av; rw [if_neg (by (try dsimp only at *); omega)]; exact pk_us
    · rw [pk_un (by (try dsimp only at *); omega)] at z'
      exact absurd (show (if c < 152 then (-1 : Int32) else 0) < 0 by rw [if_pos hc]; decide) z'
  · by_cases q : b = 0
    · subst q
      exact Or.inr ⟨pk_us, by (try dsimp only at *); omega, _, W0, by rw [pk_us]; exact wo.symm⟩
    · exact Or.inl (pk_un q)
theorem i_vc0 : wpX_init (fun u => wpY_init (fun v => i_Rel 0 u v)) := by
  have eb : kc_sg (fun j => j) (fun _ => -1) 152 0 (fun _ => 0) = kc_K0.1 := ky_clr (fun _ _ => rfl)
  have es : kc_sg (fun j => j) (fun _ => -1) 40 0 (fun _ => 0) = kc_K0.2.2.1 := ky_clr (fun _ _ => rfl)
  refine nm_e (nm_e (nm_e (nm_e (nm_e (nm_e (nm_e (nm_e ⟨153, xx_i326 152 0 _ _ _ rfl (by omega) ⟨41, xx_i355 40 0 _ _ rfl (by omega) ?_⟩⟩)))))))
  rw [es]
  refine nm_e (nm_e (nm_r (e' := upd (fun _ => 0) 0 1) rfl ⟨32, yy_i257 31 1 _ _ rfl (by omega) ?_⟩))
  intro P h
  have H := h 0 1 1 0 0 (fun _ => 0) (fun _ => 0) (fun _ => 0) (fun _ => 0) (fun _ => 0) (fun _ => 0) (fun _ => 0) (fun _ => 0) (fun _ => 0) (fun _ => 0) (fun _ => 0) (kn_u (fun _ => 0) 0 1) (kn_u (fun _ => 0) 0 1) (fun _ => 0) (fun _ => 0) (kc_fin 0 0 (kc_K0, 0)) 0 0 (fun _ => 0) (fun _ => 0) (fun _ => 0) zi_us (fun _ => 0) (fun _ => 0) (fun _ => 0) (fun _ => 0) (fun _ => 0) (fun _ => 0) (fun _ => 0) (fun _ => 0) (fun _ => 0) (fun _ => 0) (upd (fun _ => 0) 0 1) (fun _ => 0) (fun _ => 0) (fun _ => 0) (upd (fun _ => 0) 0 1) (fun _ => 0) (fun _ => 0) (upd (fun _ => 0) 0 64) (upd (fun _ => 0) 0 1) (fun _ => 0) (fun _ => 0) (fun _ => 0) (fun _ => 0) (kc_sg (fun j => j) (fun _ => -1) 152 0 (fun _ => 0)) (fun _ => 0) (fun _ => 0) (upd (fun _ => 0) 0 1) (upd (fun _ => 0) 0 (-1)) (upd (fun _ => 0) 0 1) (kc_sg (fun j => j) (fun _ => -1) 31 1 (fun _ => 0)) (fun _ => 0) (fun _ => 0) (fun _ => 0) (fun _ => 0) (fun _ => 0) (fun _ => 0) (fun _ => 0) (fun _ => 0) zi_N zi_D zi_S zi_B zi_Z
  have e1 : (kc_fin 0 0 (kc_K0, 0)).1 = upd (kc_sg (fun j => j) (fun _ => -1) 152 0 (fun _ => 0)) 120 0 := by rw [eb]; rfl
  rw [e1] at H
  exact H
end
