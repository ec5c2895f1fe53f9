section
theorem pk_us {f : Nat → Int32} {k : Nat} {x : Int32} : upd f k x k = x := if_pos rfl
theorem pk_un {f : Nat → Int32} {k j : Nat} {x : Int32} (h : j ≠ k) : upd f k x j = f j := if_neg h
theorem pk_sub {a b : Nat} (h : b ≤ a) : nI a - nI b = nI (a - b) := by
  obtain ⟨c, rfl⟩ : ∃ c, a = c + b := ⟨a - b, by omega⟩
  rw [← nI_add, Int32.add_sub_cancel, Nat.add_sub_cancel]
theorem pk_m1 (n : Nat) : nI (n + 1) + (-1) = nI n := by
  rw [← nI_1, Int32.add_assoc, show (1 : Int32) + (-1) = 0 from rfl, Int32.add_zero]
theorem pk_mul (a b : Nat) : nI a * nI b = nI (a * b) := (Int32.ofNat_mul a b).symm
theorem pk_div {a d : Nat} (ha : a < 2 ^ 31) (h0 : 0 < d) (hd : d < 2 ^ 31) : nI a / nI d = nI (a / d) := by
  apply Int32.toInt_inj.mp
  rw [lg_idiv_nonneg (by rw [nI_toInt ha]; omega) (by rw [nI_toInt hd]; omega), nI_toInt ha, nI_toInt hd, nI_toInt (Nat.lt_of_le_of_lt (Nat.div_le_self a d) ha)]
  first | rfl | exact (Int.natCast_ediv _ _).symm
theorem pk_rem {a d : Nat} (ha : a < 2 ^ 31) (h0 : 0 < d) (hd : d < 2 ^ 31) : nI a - nI a / nI d * nI d = nI (a % d) := by
  rw [pk_div ha h0 hd, pk_mul, pk_sub (Nat.div_mul_le_self a d)]
  exact congrArg nI (by have := Nat.div_add_mod' a d; omega)
theorem pk_ix (x : Int32) {n : Nat} (hn : n < 2 ^ 31) : x < 0 ∨ nI n ≤ x ∨ ∃ j : Nat, j < n ∧ x = nI j := by
  by_cases h : x < 0
  · exact Or.inl h
  · obtain ⟨j, hj, rfl⟩ := nI_of h
    by_cases h2 : j < n
    · exact Or.inr (Or.inr ⟨j, h2, rfl⟩)
    · exact Or.inr (Or.inl (nI_le (by omega) hj))
theorem pk_le {x y : Int32} {A B : Prop} (a b : Nat) (f : a ≤ b → A) (g : b < a → B) (hx : x = nI a := by rfl) (hy : y = nI b := by rfl) (ha : a < 2 ^ 31 := by omega) (hb : b < 2 ^ 31 := by omega) : (x ≤ y → A) ∧ (¬ x ≤ y → B) := by
  subst hx hy
  rw [nI_leI ha hb]
  exact ⟨f, fun z => g (by omega)⟩
theorem pk_lt {x y : Int32} {A B : Prop} (a b : Nat) (f : a < b → A) (g : b ≤ a → B) (hx : x = nI a := by rfl) (hy : y = nI b := by rfl) (ha : a < 2 ^ 31 := by omega) (hb : b < 2 ^ 31 := by omega) : (x < y → A) ∧ (¬ x < y → B) := by
  subst hx hy
  rw [nI_ltI ha hb]
  exact ⟨f, fun z => g (by omega)⟩
theorem pk_eq {x y : Int32} {A B : Prop} (a b : Nat) (f : a = b → A) (g : a ≠ b → B) (hx : x = nI a := by rfl) (hy : y = nI b := by rfl) (ha : a < 2 ^ 31 := by omega) (hb : b < 2 ^ 31 := by omega) : (x = y → A) ∧ (¬ x = y → B) := by
  subst hx hy
  rw [nI_eq ha hb]
  exact ⟨f, g⟩
theorem pk_in {x : Int32} (n N : Nat) (h : n < N) (hx : x = nI n := by rfl) (hN : N < 2 ^ 31 := by omega) : vp_in x N := by
  subst hx
  exact vp_in_nI h hN
theorem pk_cl {x : Int32} (n : Nat) (hx : x = nI n := by rfl) (h : n < 2 ^ 31 := by omega) : x.toNatClampNeg = n := by
  subst hx
  exact nI_clamp h
theorem pk_tn {n : Nat} (h : n < 2 ^ 32) : (nI n).toBitVec.toNat = n := Nat.mod_eq_of_lt h
theorem pk_and (x : Int32) {m : Int32} (k : Nat) (hm : m.toBitVec.toNat = 2 ^ k - 1) : x &&& m = nI (x.toBitVec.toNat % 2 ^ k) := by
  apply Int32.toBitVec_inj.mp
  apply BitVec.eq_of_toNat_eq
  rw [Int32.toBitVec_and, BitVec.toNat_and, hm, Nat.and_two_pow_sub_one_eq_mod]
  show _ = (BitVec.ofNat 32 _).toNat
  rw [BitVec.toNat_ofNat]
  exact (Nat.mod_eq_of_lt (Nat.lt_of_le_of_lt (Nat.mod_le _ _) x.toBitVec.isLt)).symm
theorem pk_andN {n : Nat} (h : n < 2 ^ 32) {m : Int32} (k : Nat) (hm : m.toBitVec.toNat = 2 ^ k - 1) : nI n &&& m = nI (n % 2 ^ k) := by
  rw [pk_and _ k hm, pk_tn h]
theorem pk_shl (a s : Int32) (k : Nat) (hs : (s.toBitVec.smod 32).toNat = k) : (a <<< s).toBitVec.toNat = a.toBitVec.toNat * 2 ^ k % 2 ^ 32 := by
  show (a.toBitVec <<< (s.toBitVec.smod 32).toNat).toNat = _
  rw [hs, BitVec.toNat_shiftLeft, Nat.shiftLeft_eq]
theorem pk_shlN {n : Nat} (s : Int32) (k : Nat) (hs : (s.toBitVec.smod 32).toNat = k) (h : n * 2 ^ k < 2 ^ 32) : nI n <<< s = nI (n * 2 ^ k) := by
  apply Int32.toBitVec_inj.mp
  apply BitVec.eq_of_toNat_eq
  have hn : n < 2 ^ 32 := Nat.lt_of_le_of_lt (Nat.le_mul_of_pos_right n (Nat.two_pow_pos k)) h
  rw [pk_shl _ _ k hs, pk_tn hn, pk_tn h, Nat.mod_eq_of_lt h]
theorem pk_shr (a s : Int32) (k : Nat) (hs : (s.toBitVec.smod 32).toNat = k) : (a >>> s).toInt = a.toInt >>> k := by
  show (a.toBitVec.sshiftRight (s.toBitVec.smod 32).toNat).toInt = _
  rw [hs, BitVec.toInt_sshiftRight]
  rfl
theorem pk_shrN {n : Nat} (h : n < 2 ^ 31) (s : Int32) (k : Nat) (hs : (s.toBitVec.smod 32).toNat = k) : nI n >>> s = nI (n / 2 ^ k) := by
  apply Int32.toInt_inj.mp
  have h2 : n / 2 ^ k ≤ n := Nat.div_le_self _ _
  rw [pk_shr _ _ k hs, nI_toInt h, nI_toInt (by omega), Int.shiftRight_eq_div_pow]
  rfl
theorem pk_loop {σ : Type} (W : Nat → Nat → σ → Prop) (I : Nat → σ → Prop) (e i0 : Nat) (s : σ) (hi : i0 ≤ e) (h0 : I i0 s) (hx : ∀ n s, I e s → W (n + 1) e s)
    (hs : ∀ n i s, i < e → I i s → (∀ s', I (i + 1) s' → W n (i + 1) s') → W (n + 1) i s) : ∃ n, W n i0 s :=
  ⟨e + 1, loop_i W I e hx hs (e + 1) i0 s hi (by omega) h0⟩
theorem pk_least (P : Nat → Prop) (h : ∃ k, P k) : ∃ k, P k ∧ ∀ j, j < k → ¬ P j := by
  obtain ⟨k, hk⟩ := h
  induction k using Nat.strongRecOn with
  | ind k ih =>
    by_cases e : ∃ j, j < k ∧ P j
    · obtain ⟨j, hj, pj⟩ := e
      exact ih j hj pj
    · exact ⟨k, hk, fun j hj pj => e ⟨j, hj, pj⟩⟩
theorem s_l : ∀ n, n < 32 → ((nI n &&& 31).toBitVec.smod 32).toNat = n := by decide +kernel
end
section
abbrev zf_F : Type := Fin 997
abbrev zf_V : Type := Nat → Fin 997
def zf_I (x : zf_F) : Int32 := nI x.val
def zf_c (f : Nat → zf_F) : Nat → Int32 := fun j => zf_I (f j)
def zf_n (f : Nat → Nat) : Nat → Int32 := fun j => nI (f j)
def zf_u {α : Type} (f : Nat → α) (k : Nat) (x : α) : Nat → α := fun j => if j = k then x else f j
def zf_mk (n : Nat) : zf_F := ⟨n % 997, Nat.mod_lt _ (by decide)⟩
theorem zf_us {α : Type} {f : Nat → α} {k : Nat} {x : α} : zf_u f k x k = x := if_pos rfl
theorem zf_un {α : Type} {f : Nat → α} {k j : Nat} {x : α} (h : j ≠ k) : zf_u f k x j = f j := if_neg h
theorem zf_up (f : Nat → zf_F) (k : Nat) (x : zf_F) : upd (zf_c f) k (zf_I x) = zf_c (zf_u f k x) := by
  funext j
  by_cases h : j = k
  · subst h; rw [pk_us]; show _ = zf_I (zf_u f j x j); rw [zf_us]
  · rw [pk_un h]; show _ = zf_I (zf_u f k x j); rw [zf_un h]; rfl
theorem zf_upn (f : Nat → Nat) (k : Nat) (x : Nat) : upd (zf_n f) k (nI x) = zf_n (zf_u f k x) := by
  funext j
  by_cases h : j = k
  · subst h; rw [pk_us]; show _ = nI (zf_u f j x j); rw [zf_us]
  · rw [pk_un h]; show _ = nI (zf_u f k x j); rw [zf_un h]; rfl
theorem zf_upi (f : Nat → zf_F) {i : Int32} (k : Nat) (x : zf_F) {v : Int32} (hi : i = nI k) (hk : k < 2147483648) (hv : v = zf_I x) : upd (zf_c f) i.toNatClampNeg v = zf_c (zf_u f k x) := by
  subst hi hv
  rw [nI_clamp hk, zf_up]
theorem zf_upni (f : Nat → Nat) {i : Int32} (k : Nat) (x : Nat) {v : Int32} (hi : i = nI k) (hk : k < 2147483648) (hv : v = nI x) : upd (zf_n f) i.toNatClampNeg v = zf_n (zf_u f k x) := by
  subst hi hv
  rw [nI_clamp hk, zf_upn]
theorem zf_at (f : Nat → zf_F) {i : Int32} (k : Nat) (hi : i = nI k) (hk : k < 2147483648) : zf_c f i.toNatClampNeg = zf_I (f k) := by
  subst hi
  rw [nI_clamp hk]; rfl
theorem zf_atn (f : Nat → Nat) {i : Int32} (k : Nat) (hi : i = nI k) (hk : k < 2147483648) : zf_n f i.toNatClampNeg = nI (f k) := by
  subst hi
  rw [nI_clamp hk]; rfl
theorem zf_lt (x : zf_F) : x.val < 997 := x.isLt
theorem zf_I_inj {x y : zf_F} : zf_I x = zf_I y ↔ x = y := by
  have hx := zf_lt x
  have hy := zf_lt y
  unfold zf_I
  rw [nI_eq (by omega) (by omega)]
  exact Fin.val_inj
theorem zf_I0 : zf_I 0 = 0 := rfl
theorem zf_I1 : zf_I 1 = 1 := rfl
theorem zf_Iz {x : zf_F} : zf_I x = 0 ↔ x = 0 := by
  rw [← zf_I0, zf_I_inj]
theorem zf_rem {n : Nat} (h : n < 2147483648) : nI n - nI n / 997 * 997 = zf_I (zf_mk n) := pk_rem (d := 997) h (by decide) (by decide)
theorem zf_mk_val (x : zf_F) : zf_mk x.val = x := Fin.ext (Nat.mod_eq_of_lt x.isLt)
theorem zf_mk_add (a b : Nat) : zf_mk (a + b) = zf_mk a + zf_mk b := by
  apply Fin.ext
  show (a + b) % 997 = (a % 997 + b % 997) % 997
  omega
theorem zf_mk_mul (a b : Nat) : zf_mk (a * b) = zf_mk a * zf_mk b := by
  apply Fin.ext
  show (a * b) % 997 = ((a % 997) * (b % 997)) % 997
  exact Nat.mul_mod a b 997
theorem zf_val_lt_mul (y z : zf_F) : y.val * z.val ≤ 996 * 996 := Nat.mul_le_mul (by have := zf_lt y; omega) (by have := zf_lt z; omega)
theorem zf_fma (x y z : zf_F) : (zf_I x + zf_I y * zf_I z) - (zf_I x + zf_I y * zf_I z) / 997 * 997 = zf_I (x + y * z) := by
  have h1 := zf_val_lt_mul y z
  have h2 := zf_lt x
  unfold zf_I
  rw [pk_mul, nI_add, zf_rem (by omega), zf_mk_add, zf_mk_mul, zf_mk_val, zf_mk_val, zf_mk_val]
  rfl
theorem zf_rmul (y z : zf_F) : (zf_I y * zf_I z) - (zf_I y * zf_I z) / 997 * 997 = zf_I (y * z) := by
  have h1 := zf_val_lt_mul y z
  unfold zf_I
  rw [pk_mul, zf_rem (by omega), zf_mk_mul, zf_mk_val, zf_mk_val]
  rfl
theorem zf_radd (y z : zf_F) : (zf_I y + zf_I z) - (zf_I y + zf_I z) / 997 * 997 = zf_I (y + z) := by
  have h1 := zf_lt y
  have h2 := zf_lt z
  unfold zf_I
  rw [nI_add, zf_rem (by omega), zf_mk_add, zf_mk_val, zf_mk_val]
  rfl
theorem zf_rone (y : zf_F) : zf_I y - zf_I y / 997 * 997 = zf_I y := by
  have h1 := zf_lt y
  unfold zf_I
  rw [zf_rem (by omega), zf_mk_val]
  rfl
theorem zf_fms (x f r : zf_F) : (zf_I x + (997 - zf_I f) * zf_I r) - (zf_I x + (997 - zf_I f) * zf_I r) / 997 * 997 = zf_I (x - f * r) := by
  have hx := zf_lt x
  have hf := zf_lt f
  have hr := zf_lt r
  have e : (997 : Int32) - nI f.val = nI (997 - f.val) := pk_sub (a := 997) (by omega)
  have hb : (997 - f.val) * r.val ≤ 997 * 996 := Nat.mul_le_mul (by omega) (by omega)
  unfold zf_I
  rw [e, pk_mul, nI_add, zf_rem (by omega)]
  unfold zf_I
  refine congrArg nI ?_
  have hm : f.val * r.val ≤ 997 * r.val := Nat.mul_le_mul (by omega) (Nat.le_refl _)
  show (x.val + (997 - f.val) * r.val) % 997 = ((997 - (f.val * r.val) % 997) + x.val) % 997
  rw [Nat.sub_mul]
  generalize f.val * r.val = P at hm ⊢
  omega
/-! an int of any sign -/
def zf_red (v : Int32) : zf_F := ⟨(v.toInt % 997).toNat, by have := Int.emod_nonneg v.toInt (b := 997) (by decide); have := Int.emod_lt_of_pos v.toInt (b := 997) (by decide); omega⟩
theorem zf_997 : (997 : Int32).toInt = 997 := by decide
theorem zf_modI (v : Int32) : (0 ≤ v - v / 997 * 997 → v - v / 997 * 997 = zf_I (zf_red v)) ∧ (¬ 0 ≤ v - v / 997 * 997 → v - v / 997 * 997 + 997 = zf_I (zf_red v)) := by
  have h := rem_toInt v 997
  rw [zf_997] at h
  have hb := tmod_bounds (a := v.toInt) (M := 997) (by decide)
  have h0 : (0 : Int32).toInt = 0 := by decide
  have hl := zf_lt (zf_red v)
  have hn := Int.emod_nonneg v.toInt (b := 997) (by decide)
  have hval : ((zf_red v).val : Int) = v.toInt % 997 := Int.toNat_of_nonneg hn
  have hr : (zf_I (zf_red v)).toInt = v.toInt % 997 := by
    unfold zf_I
    rw [nI_toInt (by omega), hval]
  have ht : v.toInt % 997 = v.toInt.tmod 997 ∨ v.toInt % 997 = v.toInt.tmod 997 + 997 := by
    have q1 := Int.emod_lt_of_pos v.toInt (b := 997) (by decide)
    have q2 := Int.mul_tdiv_add_tmod v.toInt 997
    have q3 := Int.mul_ediv_add_emod v.toInt 997
    omega
  have ht2 : 0 ≤ v.toInt.tmod 997 → v.toInt % 997 = v.toInt.tmod 997 := by
    have q1 := Int.emod_lt_of_pos v.toInt (b := 997) (by decide)
    intro z
    omega
  generalize v - v / 997 * 997 = r at h ⊢
  constructor
  · intro hp
    rw [Int32.le_iff_toInt_le, h0] at hp
    apply Int32.toInt_inj.mp
    rw [hr, h]
    exact (ht2 (by omega)).symm
  · intro hp
    rw [Int32.le_iff_toInt_le, h0] at hp
    apply Int32.toInt_inj.mp
    rw [hr, Int32.toInt_add, zf_997, h]
    have : v.toInt.tmod 997 + 997 = v.toInt % 997 := by omega
    rw [this]
    exact Int.bmod_eq_of_le (by omega) (by have := Int.emod_lt_of_pos v.toInt (b := 997) (by decide); omega)
theorem zf_red_nI {n : Nat} (h : n < 2147483648) : zf_red (nI n) = zf_mk n := by
  apply Fin.ext
  show ((nI n).toInt % 997).toNat = n % 997
  rw [nI_toInt (by omega)]
  omega
/-! the inverse: X's loop over the bits of 995 -/
def zf_ivN (x : Nat) : Nat → Nat × Nat
  | 0 => (1, x)
  | i + 1 => (if 995 / 2 ^ i % 2 = 1 then (zf_ivN x i).1 * (zf_ivN x i).2 % 997 else (zf_ivN x i).1, (zf_ivN x i).2 * (zf_ivN x i).2 % 997)
def zf_iv (x : zf_F) : Nat → zf_F × zf_F
  | 0 => (1, x)
  | i + 1 => (if 995 / 2 ^ i % 2 = 1 then (zf_iv x i).1 * (zf_iv x i).2 else (zf_iv x i).1, (zf_iv x i).2 * (zf_iv x i).2)
theorem zf_iv_N (x : zf_F) (i : Nat) : (zf_iv x i).1.val = (zf_ivN x.val i).1 ∧ (zf_iv x i).2.val = (zf_ivN x.val i).2 := by
  induction i with
  | zero => exact ⟨rfl, rfl⟩
  | succ i ih =>
    refine ⟨?_, ?_⟩
    · show (if 995 / 2 ^ i % 2 = 1 then (zf_iv x i).1 * (zf_iv x i).2 else (zf_iv x i).1).val = (if 995 / 2 ^ i % 2 = 1 then (zf_ivN x.val i).1 * (zf_ivN x.val i).2 % 997 else (zf_ivN x.val i).1)
      by_cases h : 995 / 2 ^ i % 2 = 1
      · rw [if_pos h, if_pos h, ← ih.1, ← ih.2]; rfl
      · rw [if_neg h, if_neg h]; exact ih.1
    · show ((zf_iv x i).2 * (zf_iv x i).2).val = (zf_ivN x.val i).2 * (zf_ivN x.val i).2 % 997
      rw [← ih.2]; rfl
theorem zf_ivN_ok : ∀ x, x < 997 → 0 < x → x * (zf_ivN x 10).1 % 997 = 1 := by decide +kernel
def zf_inv (x : zf_F) : zf_F := (zf_iv x 10).1
theorem zf_mul_inv {x : zf_F} (h : x ≠ 0) : x * zf_inv x = 1 := by
  apply Fin.ext
  show (x.val * (zf_iv x 10).1.val) % 997 = 1
  rw [(zf_iv_N x 10).1]
  refine zf_ivN_ok x.val x.isLt ?_
  have : x.val ≠ 0 := fun z => h (Fin.ext z)
  omega
theorem zf_nz {a b : zf_F} (ha : a ≠ 0) (hb : b ≠ 0) : a * b ≠ 0 := by
  intro h
  apply hb
  have e := zf_mul_inv ha
  have : b = (a * zf_inv a) * b := by rw [e, Fin.one_mul]
  rw [this]
  have e2 : (a * zf_inv a) * b = zf_inv a * (a * b) := by grind
  rw [e2, h]; grind
end
section
/-! subspaces, spans, linear maps -/
def zl_Sub (S : zf_V → Prop) : Prop := S (fun _ => 0) ∧ (∀ u v, S u → S v → S (fun j => u j + v j)) ∧ (∀ (c : zf_F) u, S u → S (fun j => c * u j))
def zl_Sp (e : Nat → zf_V) (n : Nat) (v : zf_V) : Prop := ∀ S : zf_V → Prop, zl_Sub S → (∀ i, i < n → S (e i)) → S v
def zl_Lin (T : zf_V → zf_V) : Prop := (∀ u v, T (fun j => u j + v j) = fun j => T u j + T v j) ∧ (∀ (c : zf_F) u, T (fun j => c * u j) = fun j => c * T u j)
def zl_Fun (p : zf_V → zf_F) : Prop := (∀ u v, p (fun j => u j + v j) = p u + p v) ∧ (∀ (c : zf_F) u, p (fun j => c * u j) = c * p u)
theorem zl_mem {e : Nat → zf_V} {n i : Nat} (h : i < n) : zl_Sp e n (e i) := fun S _ h2 => h2 i h
theorem zl_Sp_Sub (e : Nat → zf_V) (n : Nat) : zl_Sub (zl_Sp e n) :=
  ⟨fun S hS _ => hS.1, fun u v hu hv S hS h => hS.2.1 u v (hu S hS h) (hv S hS h), fun c u hu S hS h => hS.2.2 c u (hu S hS h)⟩
theorem zl_le {e e' : Nat → zf_V} {n n' : Nat} {v : zf_V} (h : ∀ i, i < n → zl_Sp e' n' (e i)) (hv : zl_Sp e n v) : zl_Sp e' n' v := hv _ (zl_Sp_Sub e' n') h
theorem zl_mono {e : Nat → zf_V} {n n' : Nat} {v : zf_V} (h : n ≤ n') (hv : zl_Sp e n v) : zl_Sp e n' v := zl_le (fun _ hi => zl_mem (Nat.lt_of_lt_of_le hi h)) hv
theorem zl_congr {e e' : Nat → zf_V} {n : Nat} {v : zf_V} (h : ∀ i, i < n → e i = e' i) (hv : zl_Sp e n v) : zl_Sp e' n v := zl_le (fun i hi => by rw [h i hi]; exact zl_mem hi) hv
theorem zl_Fun0 {p : zf_V → zf_F} (h : zl_Fun p) : p (fun _ => 0) = 0 := by
  have e : (fun _ : Nat => (0 : zf_F)) = fun j : Nat => (0 : zf_F) * (fun _ : Nat => (0 : zf_F)) j := by
    funext j
    exact (Fin.zero_mul _).symm
  exact (congrArg p e).trans ((h.2 0 (fun _ => 0)).trans (Fin.zero_mul _))
theorem zl_Lin0 {T : zf_V → zf_V} (h : zl_Lin T) : T (fun _ => 0) = fun _ => 0 := by
  have := h.2 0 (fun _ => 0)
  have e : (fun _ : Nat => (0 : zf_F)) = fun j : Nat => (0 : zf_F) * (fun _ : Nat => (0 : zf_F)) j := by
    funext j
    exact (Fin.zero_mul _).symm
  rw [e, this]
  funext j
  exact (Fin.zero_mul _).trans (Fin.zero_mul _).symm
theorem zl_ker_Sub {p : zf_V → zf_F} (h : zl_Fun p) : zl_Sub (fun v => p v = 0) := by
  refine ⟨zl_Fun0 h, fun u v hu hv => ?_, fun c u hu => ?_⟩
  · show p _ = 0
    rw [h.1, hu, hv]; rfl
  · show p _ = 0
    rw [h.2, hu, Fin.mul_zero]
theorem zl_pre_Sub {T : zf_V → zf_V} {S : zf_V → Prop} (h : zl_Lin T) (hS : zl_Sub S) : zl_Sub (fun v => S (T v)) := by
  refine ⟨?_, fun u v hu hv => ?_, fun c u hu => ?_⟩
  · show S (T _)
    rw [zl_Lin0 h]; exact hS.1
  · show S (T _)
    rw [h.1]; exact hS.2.1 _ _ hu hv
  · show S (T _)
    rw [h.2]; exact hS.2.2 _ _ hu
theorem zl_ker0 {p : zf_V → zf_F} (h : zl_Fun p) {e : Nat → zf_V} {n : Nat} {v : zf_V} (h0 : ∀ i, i < n → p (e i) = 0) (hv : zl_Sp e n v) : p v = 0 := hv _ (zl_ker_Sub h) h0
theorem zl_map {T : zf_V → zf_V} (h : zl_Lin T) {e e' : Nat → zf_V} {n n' : Nat} {v : zf_V} (h0 : ∀ i, i < n → zl_Sp e' n' (T (e i))) (hv : zl_Sp e n v) : zl_Sp e' n' (T v) :=
  hv _ (zl_pre_Sub h (zl_Sp_Sub e' n')) h0
/-! sums -/
def zl_sum (f : Nat → zf_F) : Nat → zf_F
  | 0 => 0
  | n + 1 => zl_sum f n + f n
theorem zl_sum_congr {f g : Nat → zf_F} {n : Nat} (h : ∀ i, i < n → f i = g i) : zl_sum f n = zl_sum g n := by
  induction n with
  | zero => rfl
  | succ n ih => unfold zl_sum; rw [ih (fun i hi => h i (by omega)), h n (by omega)]
theorem zl_sum_zero {f : Nat → zf_F} {n : Nat} (h : ∀ i, i < n → f i = 0) : zl_sum f n = 0 := by
  induction n with
  | zero => rfl
  | succ n ih => unfold zl_sum; rw [ih (fun i hi => h i (by omega)), h n (by omega)]; rfl
theorem zl_sum_add (f g : Nat → zf_F) (n : Nat) : zl_sum (fun i => f i + g i) n = zl_sum f n + zl_sum g n := by
  induction n with
  | zero => rfl
  | succ n ih => simp only [zl_sum, ih]; grind
theorem zl_sum_mul (c : zf_F) (f : Nat → zf_F) (n : Nat) : zl_sum (fun i => c * f i) n = c * zl_sum f n := by
  induction n with
  | zero => simp only [zl_sum]; grind
  | succ n ih => simp only [zl_sum, ih]; grind
theorem zl_sum_mulr (c : zf_F) (f : Nat → zf_F) (n : Nat) : zl_sum (fun i => f i * c) n = zl_sum f n * c := by
  induction n with
  | zero => simp only [zl_sum]; grind
  | succ n ih => simp only [zl_sum, ih]; grind
theorem zl_sum_one {f : Nat → zf_F} {n i : Nat} (hi : i < n) (h : ∀ k, k < n → k ≠ i → f k = 0) : zl_sum f n = f i := by
  induction n with
  | zero => omega
  | succ n ih =>
    unfold zl_sum
    by_cases e : i = n
    · subst e
      rw [zl_sum_zero (fun k hk => h k (by omega) (by omega))]; exact Fin.zero_add _
    · rw [ih (by omega) (fun k hk => h k (by omega)), h n (by omega) (fun z => e z.symm)]; exact Fin.add_zero _
theorem zl_sum_swap (c : Nat → zf_F) (a : Nat → Nat → zf_F) (h : Nat → zf_F) (s r : Nat) :
    zl_sum (fun b => c b * zl_sum (fun i => a b i * h i) s) r = zl_sum (fun i => zl_sum (fun b => c b * a b i) r * h i) s := by
  induction r with
  | zero =>
    refine (zl_sum_zero (fun i _ => ?_)).symm
    exact Fin.zero_mul _
  | succ r ih =>
    have e : (fun i => zl_sum (fun b => c b * a b i) (r + 1) * h i) = fun i => zl_sum (fun b => c b * a b i) r * h i + c r * (a r i * h i) := by
      funext i
      simp only [zl_sum]
      grind
    rw [e, zl_sum_add, ← ih, zl_sum_mul]
    rfl
def zl_cmb (c : Nat → zf_F) (e : Nat → zf_V) (n : Nat) : zf_V := fun j => zl_sum (fun i => c i * e i j) n
theorem zl_cmb_Sub (e : Nat → zf_V) (n : Nat) : zl_Sub (fun v => ∃ c, v = zl_cmb c e n) := by
  refine ⟨⟨fun _ => 0, ?_⟩, fun u v hu hv => ?_, fun c u hu => ?_⟩
  · funext j
    exact (zl_sum_zero (fun i _ => Fin.zero_mul _)).symm
  · obtain ⟨c, rfl⟩ := hu
    obtain ⟨d, rfl⟩ := hv
    refine ⟨fun i => c i + d i, ?_⟩
    funext j
    show zl_sum _ n + zl_sum _ n = zl_sum _ n
    rw [← zl_sum_add]
    refine zl_sum_congr (fun i _ => ?_)
    grind
  · obtain ⟨d, rfl⟩ := hu
    refine ⟨fun i => c * d i, ?_⟩
    funext j
    show c * zl_sum _ n = zl_sum _ n
    rw [← zl_sum_mul]
    refine zl_sum_congr (fun i _ => ?_)
    grind
theorem zl_Sp_cmb {e : Nat → zf_V} {n : Nat} {v : zf_V} (hv : zl_Sp e n v) : ∃ c, v = zl_cmb c e n := by
  refine hv _ (zl_cmb_Sub e n) (fun i hi => ⟨fun k => if k = i then 1 else 0, ?_⟩)
  funext j
  show e i j = zl_sum (fun k => (if k = i then 1 else 0) * e k j) n
  rw [zl_sum_one hi (fun k _ hk => by rw [if_neg hk]; exact Fin.zero_mul _), if_pos rfl, Fin.one_mul]
theorem zl_cmb_Sp (c : Nat → zf_F) (e : Nat → zf_V) (n : Nat) : zl_Sp e n (zl_cmb c e n) := by
  intro S hS h
  induction n with
  | zero => exact hS.1
  | succ n ih => exact hS.2.1 _ _ (ih (fun i hi => h i (by omega))) (hS.2.2 (c n) (e n) (h n (by omega)))
theorem zl_Lin_cmb {T : zf_V → zf_V} (h : zl_Lin T) (c : Nat → zf_F) (e : Nat → zf_V) (n : Nat) : T (zl_cmb c e n) = zl_cmb c (fun i => T (e i)) n := by
  induction n with
  | zero => exact zl_Lin0 h
  | succ n ih =>
    have e1 : zl_cmb c e (n + 1) = fun j => zl_cmb c e n j + (fun j => c n * e n j) j := rfl
    rw [e1, h.1, ih, h.2]
    rfl
/-! a homogeneous system with more unknowns than rows -/
def zl_sk (p i : Nat) : Nat := if i < p then i else i + 1
theorem zl_sum_sk (g : Nat → zf_F) (p m : Nat) (h : p ≤ m) : zl_sum g (m + 1) = zl_sum (fun i => g (zl_sk p i)) m + g p := by
  induction m with
  | zero =>
    have : p = 0 := by omega
    subst this
    rfl
  | succ m ih =>
    by_cases e : p = m + 1
    · subst e
      show zl_sum g (m + 1) + g (m + 1) = _
      congr 1
      refine zl_sum_congr (fun i hi => ?_)
      unfold zl_sk
      rw [if_pos hi]
    · show zl_sum g (m + 1) + g (m + 1) = _
      rw [ih (by omega)]
      show _ = (zl_sum _ m + g (zl_sk p m)) + g p
      have : zl_sk p m = m + 1 := if_neg (by omega)
      rw [this]
      grind
theorem zl_solve (n : Nat) : ∀ (m : Nat) (A : Nat → Nat → zf_F), n < m → ∃ c : Nat → zf_F, (∃ i, i < m ∧ c i ≠ 0) ∧ ∀ j, j < n → zl_sum (fun i => c i * A i j) m = 0 := by
  induction n with
  | zero => exact fun m A h => ⟨fun _ => 1, ⟨0, h, by decide⟩, fun j hj => absurd hj (Nat.not_lt_zero j)⟩
  | succ n ih =>
    intro m A h
    by_cases hz : ∃ p, p < m ∧ A p n ≠ 0
    · obtain ⟨p, hp, hpn⟩ := hz
      obtain ⟨m', rfl⟩ : ∃ m', m = m' + 1 := ⟨m - 1, by omega⟩
      obtain ⟨c, ⟨i0, hi0, hc0⟩, hc⟩ := ih m' (fun i j => A (zl_sk p i) j - (A (zl_sk p i) n * zf_inv (A p n)) * A p j) (by omega)
      have hinv := zf_mul_inv hpn
      generalize zf_inv (A p n) = v at hinv hc
      let t : zf_F := zl_sum (fun i => c i * (A (zl_sk p i) n * v)) m'
      let d : Nat → zf_F := fun i => if i = p then -t else if i < p then c i else c (i - 1)
      have hds : ∀ i, d (zl_sk p i) = c i := by
        intro i
        show (if zl_sk p i = p then -t else if zl_sk p i < p then c (zl_sk p i) else c (zl_sk p i - 1)) = c i
        unfold zl_sk
        by_cases hi : i < p
        · rw [if_pos hi, if_neg (by omega), if_pos hi]
        · rw [if_neg hi, if_neg (by omega), if_neg (by omega), Nat.add_sub_cancel]
      have hdp : d p = -t := if_pos rfl
      have hS : ∀ j, zl_sum (fun i => d i * A i j) (m' + 1) = zl_sum (fun i => c i * A (zl_sk p i) j) m' + (-t) * A p j := by
        intro j
        rw [zl_sum_sk _ p m' (by omega), hdp]
        congr 1
        refine zl_sum_congr (fun i _ => ?_)
        rw [hds]
      refine ⟨d, ⟨zl_sk p i0, ?_, by rw [hds]; exact hc0⟩, fun j hj => ?_⟩
      · unfold zl_sk
        by_cases hi : i0 < p
        · rw [if_pos hi]; omega
        · rw [if_neg hi]; omega
      · rw [hS]
        by_cases e : j = n
        · subst e
          have e1 : t * A p j = zl_sum (fun i => c i * A (zl_sk p i) j) m' := by
            show zl_sum _ m' * A p j = _
            rw [← zl_sum_mulr]
            refine zl_sum_congr (fun i _ => ?_)
            have : c i * (A (zl_sk p i) j * v) * A p j = c i * A (zl_sk p i) j * (A p j * v) := by grind
            rw [this, hinv, Fin.mul_one]
          rw [← e1]
          grind
        · have e1 := hc j (by omega)
          have e2 : zl_sum (fun i => c i * A (zl_sk p i) j) m' = zl_sum (fun i => c i * (A (zl_sk p i) j - (A (zl_sk p i) n * v) * A p j)) m' + t * A p j := by
            show _ = _ + zl_sum _ m' * A p j
            rw [← zl_sum_mulr, ← zl_sum_add]
            refine zl_sum_congr (fun i _ => ?_)
            grind
          rw [e2, e1]
          grind
    · obtain ⟨c, h1, hc⟩ := ih m A (by omega)
      refine ⟨c, h1, fun j hj => ?_⟩
      by_cases e : j = n
      · subst e
        refine zl_sum_zero (fun i hi => ?_)
        have : A i j = 0 := Classical.byContradiction (fun z => hz ⟨i, hi, z⟩)
        rw [this, Fin.mul_zero]
      · exact hc j (by omega)
/-! rows in steps: row b is not 0 at p b, later rows are -/
def zl_Ech (e : Nat → zf_V) (p : Nat → Nat) (r : Nat) : Prop := ∀ b, b < r → e b (p b) ≠ 0 ∧ ∀ b', b < b' → b' < r → e b' (p b) = 0
theorem zl_ech {e : Nat → zf_V} {p : Nat → Nat} {r : Nat} (h : zl_Ech e p r) {c : Nat → zf_F} (hc : ∃ i, i < r ∧ c i ≠ 0) : ∃ b, b < r ∧ zl_cmb c e r (p b) ≠ 0 := by
  obtain ⟨b, ⟨hb, hcb⟩, hl⟩ := pk_least (fun i => i < r ∧ c i ≠ 0) hc
  refine ⟨b, hb, ?_⟩
  have : zl_cmb c e r (p b) = c b * e b (p b) := by
    refine zl_sum_one (f := fun i => c i * e i (p b)) hb (fun k hk hkb => ?_)
    by_cases z : k < b
    · have : c k = 0 := Classical.byContradiction (fun y => hl k z ⟨hk, y⟩)
      show c k * _ = 0
      rw [this, Fin.zero_mul]
    · show c k * e k (p b) = 0
      rw [(h b hb).2 k (by omega) hk, Fin.mul_zero]
  rw [this]
  exact zf_nz hcb (h b hb).1
theorem zl_dim {e : Nat → zf_V} {p : Nat → Nat} {r D : Nat} (h : zl_Ech e p r) (hp : ∀ b, b < r → p b < D) : r ≤ D := by
  apply Classical.byContradiction
  intro z
  obtain ⟨c, hc, hs⟩ := zl_solve D r (fun i j => e i j) (by omega)
  obtain ⟨b, hb, hn⟩ := zl_ech h hc
  exact hn (hs (p b) (hp b hb))
theorem zl_rank {f g : zf_V → zf_V} (hf : zl_Lin f) (hg : zl_Lin g) (hk : ∀ v, (∀ j, g v j = 0) → ∀ j, f v j = 0) {x y : Nat → zf_V} {r s : Nat} {p : Nat → Nat}
    (he : zl_Ech (fun b => f (x b)) p r) (hs : ∀ b, b < r → zl_Sp (fun i => g (y i)) s (g (x b))) : r ≤ s := by
  apply Classical.byContradiction
  intro z
  have hs' : ∀ b, ∃ a, b < r → g (x b) = zl_cmb a (fun i => g (y i)) s := by
    intro b
    by_cases hb : b < r
    · obtain ⟨a, ha⟩ := zl_Sp_cmb (hs b hb)
      exact ⟨a, fun _ => ha⟩
    · exact ⟨fun _ => 0, fun z => absurd z hb⟩
  obtain ⟨A, hA⟩ := Classical.axiomOfChoice hs'
  obtain ⟨c, hc, hz⟩ := zl_solve s r A (by omega)
  have h0 : ∀ j, g (zl_cmb c x r) j = 0 := by
    intro j
    rw [zl_Lin_cmb hg]
    show zl_sum (fun b => c b * g (x b) j) r = 0
    have e : zl_sum (fun b => c b * g (x b) j) r = zl_sum (fun b => c b * zl_sum (fun i => A b i * g (y i) j) s) r :=
      zl_sum_congr (fun b hb => by rw [hA b hb]; rfl)
    rw [e, zl_sum_swap]
    refine zl_sum_zero (fun i hi => ?_)
    rw [hz i hi, Fin.zero_mul]
  have h1 := hk _ h0
  rw [zl_Lin_cmb hf] at h1
  obtain ⟨b, hb, hn⟩ := zl_ech he hc
  exact hn (h1 (p b))
end
section
/-! the automata and the pure passes -/
def zm_OK (sz : Nat → Nat) (st en sp : Nat → zf_F) : Prop :=
  (∀ a, a < 3 → 1 ≤ sz a ∧ sz a ≤ 4) ∧ (∀ a q, a < 3 → q < 4 → sz a ≤ q → st (4 * a + q) = 0 ∧ en (4 * a + q) = 0) ∧
  (∀ a l p q, a < 3 → l < 2 → p < 4 → q < 4 → (sz a ≤ p ∨ sz a ≤ q) → sp (32 * a + 16 * l + 4 * p + q) = 0)
def zm_srow (st : Nat → zf_F) (me : Nat → Nat) (sg : Nat → zf_F) (k : Nat) : zf_V := fun j => if j < k then st (4 * me (j / 4) + j % 4) * sg (j / 4) else 0
theorem zm_srow_step (st : Nat → zf_F) (me : Nat → Nat) (sg : Nat → zf_F) {i q : Nat} (hq : q < 4) : zf_u (zm_srow st me sg (4 * i + q)) (4 * i + q) (st (4 * me i + q) * sg i) = zm_srow st me sg (4 * i + (q + 1)) := by
  funext j
  unfold zm_srow
  by_cases h : j = 4 * i + q
  · subst h
    rw [zf_us, if_pos (by omega), show (4 * i + q) / 4 = i by omega, show (4 * i + q) % 4 = q by omega]
  · rw [zf_un h]
    by_cases h2 : j < 4 * i + q
    · rw [if_pos h2, if_pos (by omega)]
    · rw [if_neg h2, if_neg (by omega)]
theorem zm_srow_end (st : Nat → zf_F) (me : Nat → Nat) (sg : Nat → zf_F) {i n : Nat} (hn : n ≤ 4) (hz : ∀ q, q < 4 → n ≤ q → st (4 * me i + q) = 0) : zm_srow st me sg (4 * i + n) = zm_srow st me sg (4 * (i + 1)) := by
  funext j
  unfold zm_srow
  by_cases h : j < 4 * i + n
  · rw [if_pos h, if_pos (by omega)]
  · rw [if_neg h]
    by_cases h2 : j < 4 * (i + 1)
    · rw [if_pos h2]
      have e1 : j / 4 = i := by omega
      have e2 := hz (j % 4) (by omega) (by omega)
      rw [e1, e2, Fin.zero_mul]
    · rw [if_neg h2]
def zm_pa (sp : Nat → zf_F) (me : Nat → Nat) (l : Nat) (x : zf_V) : Nat → zf_V
  | 0 => fun _ => 0
  | k + 1 => fun j => zm_pa sp me l x k j + (if j / 4 = k / 4 then x k * sp (32 * me (k / 4) + 16 * l + 4 * (k % 4) + j % 4) else 0)
def zm_pm (sp : Nat → zf_F) (me : Nat → Nat) (l : Nat) (x : zf_V) (k q : Nat) : zf_V := fun j => if j / 4 = k / 4 ∧ j % 4 < q then zm_pa sp me l x (k + 1) j else zm_pa sp me l x k j
theorem zm_pm_0 (sp : Nat → zf_F) (me : Nat → Nat) (l : Nat) (x : zf_V) (k : Nat) : zm_pm sp me l x k 0 = zm_pa sp me l x k := by
  funext j
  exact if_neg (by omega)
theorem zm_pm_at (sp : Nat → zf_F) (me : Nat → Nat) (l : Nat) (x : zf_V) (k q : Nat) (hq : q < 4) : zm_pm sp me l x k q (4 * (k / 4) + q) = zm_pa sp me l x k (4 * (k / 4) + q) := if_neg (by omega)
theorem zm_pm_step (sp : Nat → zf_F) (me : Nat → Nat) (l : Nat) (x : zf_V) (k q : Nat) (hq : q < 4) :
    zf_u (zm_pm sp me l x k q) (4 * (k / 4) + q) (zm_pm sp me l x k q (4 * (k / 4) + q) + x k * sp (32 * me (k / 4) + 16 * l + 4 * (k % 4) + q)) = zm_pm sp me l x k (q + 1) := by
  funext j
  by_cases h : j = 4 * (k / 4) + q
  · subst h
    rw [zf_us, zm_pm_at _ _ _ _ _ _ hq]
    unfold zm_pm
    have e1 : (4 * (k / 4) + q) / 4 = k / 4 := by omega
    have e2 : (4 * (k / 4) + q) % 4 = q := by omega
    rw [if_pos ⟨e1, by omega⟩]
    show _ = zm_pa sp me l x k _ + (if _ then _ else _)
    rw [if_pos e1, e2]
  · rw [zf_un h]
    unfold zm_pm
    by_cases h2 : j / 4 = k / 4 ∧ j % 4 < q
    · rw [if_pos h2, if_pos ⟨h2.1, by omega⟩]
    · rw [if_neg h2, if_neg (by omega)]
theorem zm_pm_end (sp : Nat → zf_F) (me : Nat → Nat) (l : Nat) (x : zf_V) (k q : Nat) (hz : ∀ q', q' < 4 → q ≤ q' → sp (32 * me (k / 4) + 16 * l + 4 * (k % 4) + q') = 0) :
    zm_pm sp me l x k q = zm_pa sp me l x (k + 1) := by
  funext j
  unfold zm_pm
  by_cases h : j / 4 = k / 4 ∧ j % 4 < q
  · rw [if_pos h]
  · rw [if_neg h]
    show _ = zm_pa sp me l x k j + (if _ then _ else _)
    by_cases h2 : j / 4 = k / 4
    · rw [if_pos h2, hz (j % 4) (by omega) (by omega), Fin.mul_zero, Fin.add_zero]
    · rw [if_neg h2, Fin.add_zero]
theorem zm_pa_supp (sp : Nat → zf_F) (me : Nat → Nat) (l : Nat) (x : zf_V) (M : Nat) {j : Nat} (hj : 4 * M ≤ j) : ∀ k, k ≤ 4 * M → zm_pa sp me l x k j = 0 := by
  intro k
  induction k with
  | zero => intro _; rfl
  | succ k ih =>
    intro h
    show zm_pa sp me l x k j + (if _ then _ else _) = 0
    rw [ih (by omega), if_neg (by omega), Fin.add_zero]
theorem zm_srow_supp (st : Nat → zf_F) (me : Nat → Nat) (sg : Nat → zf_F) {k j : Nat} (hj : k ≤ j) : zm_srow st me sg k j = 0 := if_neg (by omega)
def zm_ev (en : Nat → zf_F) (me : Nat → Nat) (x : zf_V) : Nat → zf_F
  | 0 => 0
  | k + 1 => zm_ev en me x k + x k * en (4 * me (k / 4) + k % 4)
theorem zm_pa_Lin (sp : Nat → zf_F) (me : Nat → Nat) (l k : Nat) : zl_Lin (fun x => zm_pa sp me l x k) := by
  refine ⟨fun u v => ?_, fun c u => ?_⟩
  · induction k with
    | zero => funext j; exact (Fin.add_zero _).symm
    | succ k ih =>
      funext j
      have e := congrFun ih j
      dsimp only at e
      simp only [zm_pa, e]
      by_cases h : j / 4 = k / 4
      · simp only [if_pos h]; grind
      · simp only [if_neg h]; grind
  · induction k with
    | zero => funext j; exact (Fin.mul_zero _).symm
    | succ k ih =>
      funext j
      have e := congrFun ih j
      dsimp only at e
      simp only [zm_pa, e]
      by_cases h : j / 4 = k / 4
      · simp only [if_pos h]; grind
      · simp only [if_neg h]; grind
theorem zm_ev_Fun (en : Nat → zf_F) (me : Nat → Nat) (k : Nat) : zl_Fun (fun x => zm_ev en me x k) := by
  refine ⟨fun u v => ?_, fun c u => ?_⟩
  · induction k with
    | zero => exact (Fin.add_zero _).symm
    | succ k ih => dsimp only at ih; simp only [zm_ev, ih]; grind
  · induction k with
    | zero => exact (Fin.mul_zero _).symm
    | succ k ih => dsimp only at ih; simp only [zm_ev, ih]; grind
/-! the vector of a word's code -/
def zm_vw (T : Nat → zf_V → zf_V) (v0 : zf_V) (c : Nat) : zf_V := if h : c ≤ 1 then v0 else T (c % 2) (zm_vw T v0 (c / 2))
termination_by c
decreasing_by omega
theorem zm_vw_1 (T : Nat → zf_V → zf_V) (v0 : zf_V) : zm_vw T v0 1 = v0 := by rw [zm_vw]; rfl
theorem zm_vw_s (T : Nat → zf_V → zf_V) (v0 : zf_V) {c l : Nat} (hc : 1 ≤ c) (hl : l < 2) : zm_vw T v0 (2 * c + l) = T l (zm_vw T v0 c) := by
  rw [zm_vw, dif_neg (by omega), show (2 * c + l) % 2 = l by omega, show (2 * c + l) / 2 = c by omega]
theorem zm_vw_h (T : Nat → zf_V → zf_V) (v0 : zf_V) {c : Nat} (hc : 1 < c) : zm_vw T v0 c = T (c % 2) (zm_vw T v0 (c / 2)) := by
  rw [zm_vw, dif_neg (by omega)]
theorem zm_vw_ind {T : Nat → zf_V → zf_V} {v0 : zf_V} {P : zf_V → Prop} (h0 : P v0) (hs : ∀ l v, l < 2 → P v → P (T l v)) : ∀ c, 1 ≤ c → P (zm_vw T v0 c) := by
  intro c
  induction c using Nat.strongRecOn with
  | ind c ih =>
    intro hc
    by_cases h : c = 1
    · subst h; rw [zm_vw_1]; exact h0
    · rw [zm_vw_h _ _ (by omega)]
      exact hs _ _ (Nat.mod_lt _ (by decide)) (ih (c / 2) (by omega) (by omega))
/-! a basis in steps, and how a row is reduced by it -/
def zm_row (ro : Nat → zf_F) (k : Nat) : zf_V := fun j => if j < 12 then ro (12 * k + j) else 0
def zm_rd (re : Nat → zf_F) (pi : Nat → Nat) (x : zf_V) : Nat → zf_V
  | 0 => x
  | c + 1 => fun j => zm_rd re pi x c j - zm_rd re pi x c (pi c) * zm_row re c j
def zm_Q (D B : Nat) (re : Nat → zf_F) (pi : Nat → Nat) : Prop :=
  ∀ c, c < B → pi c < D ∧ zm_row re c (pi c) = 1 ∧ (∀ j, D ≤ j → zm_row re c j = 0) ∧ ∀ c', c < c' → c' < B → zm_row re c' (pi c) = 0
theorem zm_rd_S {S : zf_V → Prop} (hS : zl_Sub S) {re : Nat → zf_F} {pi : Nat → Nat} {x : zf_V} : ∀ {B : Nat}, (∀ c, c < B → S (zm_row re c)) → (S (zm_rd re pi x B) ↔ S x) := by
  intro B
  induction B with
  | zero => exact fun _ => Iff.rfl
  | succ B ih =>
    intro h
    rw [← ih (fun c hc => h c (by omega))]
    have hB := h B (by omega)
    generalize hf : zm_rd re pi x B (pi B) = f
    have e1 : zm_rd re pi x (B + 1) = fun j => zm_rd re pi x B j + (fun j => (-f) * zm_row re B j) j := by
      funext j
      show zm_rd re pi x B j - zm_rd re pi x B (pi B) * zm_row re B j = _
      rw [hf]
      dsimp only
      grind
    have e2 : zm_rd re pi x B = fun j => zm_rd re pi x (B + 1) j + (fun j => f * zm_row re B j) j := by
      funext j
      show _ = (zm_rd re pi x B j - zm_rd re pi x B (pi B) * zm_row re B j) + _
      rw [hf]
      dsimp only
      grind
    constructor
    · intro hs
      rw [e2]
      exact hS.2.1 _ _ hs (hS.2.2 _ _ hB)
    · intro hs
      rw [e1]
      exact hS.2.1 _ _ hs (hS.2.2 _ _ hB)
theorem zm_rd_piv {D B : Nat} {re : Nat → zf_F} {pi : Nat → Nat} (Q : zm_Q D B re pi) (x : zf_V) : ∀ n, n ≤ B → ∀ c, c < n → zm_rd re pi x n (pi c) = 0 := by
  intro n
  induction n with
  | zero => intro _ c hc; omega
  | succ n ih =>
    intro hn c hc
    show zm_rd re pi x n (pi c) - zm_rd re pi x n (pi n) * zm_row re n (pi c) = 0
    by_cases e : c = n
    · subst e
      rw [(Q c (by omega)).2.1, Fin.mul_one]
      grind
    · rw [ih (by omega) c (by omega), (Q c (by omega)).2.2.2 n (by omega) (by omega), Fin.mul_zero]
      grind
theorem zm_rd_supp {D B : Nat} {re : Nat → zf_F} {pi : Nat → Nat} (Q : zm_Q D B re pi) {x : zf_V} (hx : ∀ j, D ≤ j → x j = 0) : ∀ n, n ≤ B → ∀ j, D ≤ j → zm_rd re pi x n j = 0 := by
  intro n
  induction n with
  | zero => exact fun _ => hx
  | succ n ih =>
    intro hn j hj
    show zm_rd re pi x n j - zm_rd re pi x n (pi n) * zm_row re n j = 0
    rw [ih (by omega) j hj, (Q n (by omega)).2.2.1 j hj, Fin.mul_zero]
    grind
theorem zm_Q_ech {D B : Nat} {re : Nat → zf_F} {pi : Nat → Nat} (Q : zm_Q D B re pi) : zl_Ech (zm_row re) pi B := fun c hc => ⟨by rw [(Q c hc).2.1]; decide, (Q c hc).2.2.2⟩
theorem zm_Q_dim {D B : Nat} {re : Nat → zf_F} {pi : Nat → Nat} (Q : zm_Q D B re pi) : B ≤ D := zl_dim (zm_Q_ech Q) (fun c hc => (Q c hc).1)
theorem zm_Q_0 (D : Nat) (re : Nat → zf_F) (pi : Nat → Nat) : zm_Q D 0 re pi := fun c hc => absurd hc (Nat.not_lt_zero c)
theorem zm_Q_S {D B : Nat} {re re' : Nat → zf_F} {pi : Nat → Nat} {x : zf_V} (Q : zm_Q D B re pi) (hx : ∀ j, D ≤ j → x j = 0) {P : Nat} (hP : zm_rd re pi x B P ≠ 0)
    (h1 : ∀ c, c < B → zm_row re' c = zm_row re c) (h2 : ∀ j, zm_row re' B j = zm_rd re pi x B j * zf_inv (zm_rd re pi x B P)) : zm_Q D (B + 1) re' (zf_u pi B P) := by
  intro c hc
  by_cases e : c = B
  · subst e
    rw [zf_us]
    refine ⟨?_, ?_, fun j hj => ?_, fun c' h h' => by omega⟩
    · apply Classical.byContradiction
      intro z
      exact hP (zm_rd_supp Q hx c (Nat.le_refl _) P (by omega))
    · rw [h2, zf_mul_inv hP]
    · rw [h2, zm_rd_supp Q hx c (Nat.le_refl _) j hj, Fin.zero_mul]
  · have q := Q c (by omega)
    rw [zf_un (show c ≠ B from e), h1 c (by omega)]
    refine ⟨q.1, q.2.1, q.2.2.1, fun c' h h' => ?_⟩
    by_cases e' : c' = B
    · subst e'
      rw [h2, zm_rd_piv Q x c' (Nat.le_refl _) c (by omega), Fin.zero_mul]
    · rw [h1 c' (by omega)]
      exact q.2.2.2 c' h (by omega)
theorem zm_Q_mem {D B : Nat} {re re' : Nat → zf_F} {pi : Nat → Nat} {x : zf_V} {P : Nat} (hP : zm_rd re pi x B P ≠ 0)
    (h1 : ∀ c, c < B → zm_row re' c = zm_row re c) (h2 : ∀ j, zm_row re' B j = zm_rd re pi x B j * zf_inv (zm_rd re pi x B P))
    {S : zf_V → Prop} (hS : zl_Sub S) (hc : ∀ c, c < B → S (zm_row re c)) : S (zm_row re' B) ↔ S x := by
  rw [← zm_rd_S hS hc (pi := pi) (x := x)]
  have e1 : zm_row re' B = fun j => zf_inv (zm_rd re pi x B P) * zm_rd re pi x B j := by
    funext j
    rw [h2]; grind
  have e2 : zm_rd re pi x B = fun j => zm_rd re pi x B P * zm_row re' B j := by
    funext j
    rw [h2]
    have := zf_mul_inv hP
    grind
  constructor
  · intro h
    rw [e2]; exact hS.2.2 _ _ h
  · intro h
    rw [e1]; exact hS.2.2 _ _ h
theorem zm_Q_in {B : Nat} {re : Nat → zf_F} {pi : Nat → Nat} {x : zf_V} (h : ∀ j, zm_rd re pi x B j = 0) : zl_Sp (zm_row re) B x := by
  refine (zm_rd_S (zl_Sp_Sub (zm_row re) B) (fun c hc => zl_mem hc) (pi := pi)).mp ?_
  have : zm_rd re pi x B = fun _ => 0 := funext h
  rw [this]
  exact (zl_Sp_Sub (zm_row re) B).1
theorem zm_Q_room {D B : Nat} {re : Nat → zf_F} {pi : Nat → Nat} {x : zf_V} (Q : zm_Q D B re pi) (hx : ∀ j, D ≤ j → x j = 0) (hn : ¬ zl_Sp (zm_row re) B x) : B + 1 ≤ D := by
  have hP : ∃ P, zm_rd re pi x B P ≠ 0 := by
    apply Classical.byContradiction
    intro z
    exact hn (zm_Q_in (fun j => Classical.byContradiction (fun y => z ⟨j, y⟩)))
  obtain ⟨P, hP⟩ := hP
  have hPD : P < D := by
    apply Classical.byContradiction
    intro z
    exact hP (zm_rd_supp Q hx B (Nat.le_refl _) P (by omega))
  refine zl_dim (e := zf_u (zm_row re) B (zm_rd re pi x B)) (p := zf_u pi B P) (fun c hc => ?_) (fun c hc => ?_)
  · by_cases e : c = B
    · subst e
      rw [zf_us, zf_us]
      exact ⟨hP, fun b' h h' => by omega⟩
    · rw [zf_un (show c ≠ B from e), zf_un (show c ≠ B from e)]
      have q := zm_Q_ech Q c (by omega)
      refine ⟨q.1, fun b' h h' => ?_⟩
      by_cases e' : b' = B
      · subst e'
        rw [zf_us]
        exact zm_rd_piv Q x b' (Nat.le_refl _) c (by omega)
      · rw [zf_un (show b' ≠ B from e')]
        exact q.2 b' h (by omega)
  · by_cases e : c = B
    · subst e; rw [zf_us]; exact hPD
    · rw [zf_un (show c ≠ B from e)]
      exact (Q c (by omega)).1
/-! the basis and the kept rows -/
def zm_K (D B : Nat) (re : Nat → zf_F) (pi : Nat → Nat) (ro : Nat → zf_F) : Prop := zm_Q D B re pi ∧ ∀ i, i < B → zl_Sp (zm_row ro) B (zm_row re i)
theorem zm_K_0 (D : Nat) (re : Nat → zf_F) (pi : Nat → Nat) (ro : Nat → zf_F) : zm_K D 0 re pi ro := ⟨zm_Q_0 D re pi, fun i hi => absurd hi (Nat.not_lt_zero i)⟩
theorem zm_K_S {D B : Nat} {re re' ro ro' : Nat → zf_F} {pi : Nat → Nat} {x : zf_V} (K : zm_K D B re pi ro) (hx : ∀ j, D ≤ j → x j = 0) {P : Nat} (hP : zm_rd re pi x B P ≠ 0)
    (h1 : ∀ c, c < B → zm_row re' c = zm_row re c) (h2 : ∀ j, zm_row re' B j = zm_rd re pi x B j * zf_inv (zm_rd re pi x B P))
    (h3 : ∀ c, c < B → zm_row ro' c = zm_row ro c) (h4 : zm_row ro' B = x) : zm_K D (B + 1) re' (zf_u pi B P) ro' := by
  refine ⟨zm_Q_S K.1 hx hP h1 h2, ?_⟩
  have hold : ∀ c, c < B → zl_Sp (zm_row ro') (B + 1) (zm_row re c) := fun c hc =>
    zl_mono (Nat.le_succ B) (zl_congr (fun i hi => (h3 i hi).symm) (K.2 c hc))
  intro i hi
  by_cases e : i = B
  · subst e
    exact (zm_Q_mem (D := D) hP h1 h2 (zl_Sp_Sub _ _) hold).mpr (by rw [← h4]; exact zl_mem (by omega))
  · rw [h1 i (by omega)]
    exact hold i (by omega)
end
section
/-! indices -/
abbrev zx_J1 : Type := Int32 → (Nat → Int32) → (Nat → Int32) → (Nat → Int32) → (Nat → Int32) → (Nat → Int32) → (Nat → Int32) → (Nat → Int32) → (Nat → Int32) → (Nat → Int32) → (Nat → Int32) → (Nat → Int32) → (Nat → Int32) → (Nat → Int32) → Prop
abbrev zx_J4 : Type := Int32 → Int32 → Int32 → Int32 → (Nat → Int32) → (Nat → Int32) → (Nat → Int32) → (Nat → Int32) → (Nat → Int32) → (Nat → Int32) → (Nat → Int32) → (Nat → Int32) → (Nat → Int32) → (Nat → Int32) → (Nat → Int32) → (Nat → Int32) → (Nat → Int32) → Prop
abbrev zx_J7 : Type := Int32 → (Nat → Int32) → (Nat → Int32) → (Nat → Int32) → (Nat → Int32) → (Nat → Int32) → (Nat → Int32) → (Nat → Int32) → Prop
theorem zx_k4 (a q : Nat) : 4 * nI a + nI q = nI (4 * a + q) := by rw [← nI_add, ← pk_mul]; rfl
theorem zx_k12 (a q : Nat) : 12 * nI a + nI q = nI (12 * a + q) := by rw [← nI_add, ← pk_mul]; rfl
theorem zx_k15 (a q : Nat) : 15 * nI a + nI q = nI (15 * a + q) := by rw [← nI_add, ← pk_mul]; rfl
theorem zx_k32 (a q : Nat) : 32 * nI a + nI q = nI (32 * a + q) := by rw [← nI_add, ← pk_mul]; rfl
theorem zx_kst (a l p q : Nat) : 32 * nI a + 16 * nI l + 4 * nI p + nI q = nI (32 * a + 16 * l + 4 * p + q) := by
  rw [← nI_add, ← nI_add, ← nI_add, ← pk_mul, ← pk_mul, ← pk_mul]; rfl
theorem zx_kt0 (a p q : Nat) : 32 * nI a + 4 * nI p + nI q = nI (32 * a + 4 * p + q) := by
  rw [← nI_add, ← nI_add, ← pk_mul, ← pk_mul]; rfl
theorem zx_kt1 (a p q : Nat) : 32 * nI a + 16 + 4 * nI p + nI q = nI (32 * a + 16 + 4 * p + q) := by
  rw [← nI_add, ← nI_add, ← nI_add, ← pk_mul, ← pk_mul]; rfl
theorem zx_m4 (M : Nat) : 4 * nI M = nI (4 * M) := by rw [← pk_mul]; rfl
theorem zx_sh2 {k : Nat} (h : k < 2147483648) : nI k >>> ((2 : Int32) &&& 31) = nI (k / 4) := pk_shrN h _ 2 (by decide)
theorem zx_sh4 {k : Nat} (h : k < 2147483648) : nI k >>> ((4 : Int32) &&& 31) = nI (k / 16) := pk_shrN h _ 4 (by decide)
theorem zx_an3 {k : Nat} (h : k < 2147483648) : nI k &&& 3 = nI (k % 4) := pk_andN (by omega) 2 (by decide)
theorem zx_bit {c t : Nat} (hc : c < 2147483648) (ht : t < 32) : (nI c >>> (nI t &&& 31)) &&& 1 = nI (c / 2 ^ t % 2) := by
  have h2 : c / 2 ^ t ≤ c := Nat.div_le_self _ _
  rw [pk_shrN hc _ t (s_l t ht)]
  exact pk_andN (by omega) 1 (by decide)
theorem zx_fill {α : Type} {N i : Nat} {s y : Nat → α} (h : ∀ j, (j < i ∨ N ≤ j) → s j = y j) {x : α} (hx : x = y i) : ∀ j, (j < i + 1 ∨ N ≤ j) → zf_u s i x j = y j := by
  intro j hj
  by_cases e : j = i
  · subst e; rw [zf_us, hx]
  · rw [zf_un e]; exact h j (by omega)
theorem zx_fillat {α : Type} {base k : Nat} {s old v : Nat → α} (h : (∀ j, j < k → s (base + j) = v j) ∧ ∀ j, j < base → s j = old j) {x : α} (hx : x = v k) :
    (∀ j, j < k + 1 → zf_u s (base + k) x (base + j) = v j) ∧ ∀ j, j < base → zf_u s (base + k) x j = old j := by
  refine ⟨fun j hj => ?_, fun j hj => ?_⟩
  · by_cases e : j = k
    · subst e; rw [zf_us, hx]
    · rw [zf_un (by omega)]; exact h.1 j (by omega)
  · rw [zf_un (by omega)]; exact h.2 j hj
/-! X: small methods -/
theorem zx_good {post : Int32 → Prop} {a : Nat} (ha : a < 3) (H : post 1) : wpX_isGood post (nI a) := br_f (nI_pos (by omega)) (pk_lt 2 a (fun z => by omega) (fun _ => H))
theorem zx_bad {post : Int32 → Prop} {v : Int32} (hv : v < 0 ∨ nI 3 ≤ v) (H : post 0) : wpX_isGood post v := by
  by_cases h : v < 0
  · exact br_t h H
  · refine br_f h (br_t ?_ H)
    rcases hv with z | z
    · exact absurd z h
    · exact Int32.lt_of_lt_of_le (show (2 : Int32) < nI 3 by decide) z
theorem zx_modulo {post : Int32 → Prop} (v : Int32) (H : post (zf_I (zf_red v))) : wpX_modulo post v := by
  refine And.intro (by decide) (nm_e ?_)
  exact br_c (fun h => by rw [(zf_modI v).1 h]; exact H) (fun h => by rw [(zf_modI v).2 h]; exact H)
theorem zx_moduloN {post : Int32 → Prop} {n : Nat} (hn : n < 2147483648) {v : Int32} (hv : v = nI n) (H : post (zf_I (zf_mk n))) : wpX_modulo post v := by
  subst hv
  refine zx_modulo _ ?_
  rw [zf_red_nI hn]; exact H
theorem zx_inverse {post : Int32 → Prop} (x : zf_F) (H : post (zf_I (zf_inv x))) : wpX_inverse post (zf_I x) := by
  refine loop_0 (fun n i (s : zf_F × zf_F) => wX_inverse_11 post 995 n (zf_I s.1) (zf_I s.2) (nI i)) (fun i s => s = zf_iv x i) 10 (1, x) rfl (fun n s hI => ?_) (fun n i s hi hI ih => ?_)
  · subst hI
    exact pk_le 10 10 (fun _ => H) (fun z => by omega)
  · subst hI
    have e : ((995 : Int32) >>> (nI i &&& 31)) &&& 1 = nI (995 / 2 ^ i % 2) := zx_bit (c := 995) (by decide) (by omega)
    have hj : wX_inverse_36 post (wX_inverse_11 post 995 n) (zf_I (zf_iv x (i + 1)).1) (zf_I (zf_iv x i).2) 995 (nI i) := by
      refine And.intro (by decide) (nm_r (zf_rmul _ _) (nm_r (nI_1 i) ?_))
      exact ih (zf_iv x (i + 1)) rfl
    refine pk_le 10 i (fun z => by omega) (fun _ => pk_eq (995 / 2 ^ i % 2) 1 (fun h => ⟨by decide, nm_r (zf_rmul _ _) ?_⟩) (fun h => ?_) e rfl (by omega) (by omega))
    · have e1 : (zf_iv x (i + 1)).1 = (zf_iv x i).1 * (zf_iv x i).2 := if_pos h
      rw [e1] at hj
      exact hj
    · have e1 : (zf_iv x (i + 1)).1 = (zf_iv x i).1 := if_neg h
      rw [e1] at hj
      exact hj
section
variable {m w b : Int32} {sz : Nat → Nat} {st en sp : Nat → zf_F} {me : Nat → Nat} {sg ro : Nat → zf_F} {co : Nat → Nat} {re : Nat → zf_F} {pi : Nat → Nat} {nw nx ke : Nat → zf_F}
theorem zx_alone {post : SX → Prop} {a : Nat} (H : post (nI 1, w, b, zf_n sz, zf_c st, zf_c en, zf_c sp, zf_n (zf_u me 0 a), zf_c (zf_u sg 0 1), zf_c ro, zf_n co, zf_c re, zf_n pi, zf_c nw, zf_c nx, zf_c ke)) : wpX_alone post (m, w, b, zf_n sz, zf_c st, zf_c en, zf_c sp, zf_n me, zf_c sg, zf_c ro, zf_n co, zf_c re, zf_n pi, zf_c nw, zf_c nx, zf_c ke) (nI a) :=
  nm_r (zf_upn me 0 a) (nm_r (zf_up sg 0 1) H)
theorem zx_pair {post : SX → Prop} {a c : Nat} (H : post (nI 2, w, b, zf_n sz, zf_c st, zf_c en, zf_c sp, zf_n (zf_u (zf_u me 0 a) 1 c), zf_c (zf_u (zf_u sg 0 1) 1 (zf_mk 996)), zf_c ro, zf_n co, zf_c re, zf_n pi, zf_c nw, zf_c nx, zf_c ke)) : wpX_pair post (m, w, b, zf_n sz, zf_c st, zf_c en, zf_c sp, zf_n me, zf_c sg, zf_c ro, zf_n co, zf_c re, zf_n pi, zf_c nw, zf_c nx, zf_c ke) (nI a) (nI c) := by
  unfold wpX_pair
  refine zx_alone ?_
  exact nm_r (zf_upn _ 1 c) (nm_r (zf_up _ 1 (zf_mk 996)) H)
/-! startRow -/
theorem zx_startRow_33 {post : SX → Prop} {J : zx_J1}
    {i : Nat} (hi : i < 3) (hm : me i < 3) (hs : sz (me i) ≤ 4) (hz : ∀ q, q < 4 → sz (me i) ≤ q → st (4 * me i + q) = 0)
    (H : J (nI (i + 1)) (zf_n sz) (zf_c st) (zf_c en) (zf_c sp) (zf_n me) (zf_c sg) (zf_c ro) (zf_n co) (zf_c re) (zf_n pi) (zf_c (zm_srow st me sg (4 * (i + 1)))) (zf_c nx) (zf_c ke)) : ∃ n, wX_startRow_33 post J (nI i) m w b n 0 (zf_n sz) (zf_c st) (zf_c en) (zf_c sp) (zf_n me) (zf_c sg) (zf_c ro) (zf_n co) (zf_c re) (zf_n pi) (zf_c (zm_srow st me sg (4 * i))) (zf_c nx) (zf_c ke) := by
  have e1 : zf_n me (nI i).toNatClampNeg = nI (me i) := zf_atn me i rfl (by omega)
  have e2 : zf_n sz (zf_n me (nI i).toNatClampNeg).toNatClampNeg = nI (sz (me i)) := zf_atn sz (me i) e1 (by omega)
  have e4 : zf_c sg (nI i).toNatClampNeg = zf_I (sg i) := zf_at sg i rfl (by omega)
  refine loop_0 (fun n q s => wX_startRow_33 post J (nI i) m w b n (nI q) (zf_n sz) (zf_c st) (zf_c en) (zf_c sp) (zf_n me) (zf_c sg) (zf_c ro) (zf_n co) (zf_c re) (zf_n pi) (zf_c s) (zf_c nx) (zf_c ke)) (fun q s => s = zm_srow st me sg (4 * i + q)) (sz (me i)) _ rfl (fun n s hI => ?_) (fun n q s hq hI ih => ?_)
  · subst hI
    refine And.intro (pk_in i 3 hi) ⟨pk_in (me i) 3 hm e1, pk_le (sz (me i)) (sz (me i)) (fun _ => nm_r (nI_1 i) ?_) (fun z => by omega) e2⟩
    rw [zm_srow_end st me sg hs hz]
    exact H
  · subst hI
    have e3 : zf_c st (4 * zf_n me (nI i).toNatClampNeg + nI q).toNatClampNeg = zf_I (st (4 * me i + q)) := zf_at st (4 * me i + q) (by rw [e1]; exact zx_k4 _ _) (by omega)
    refine And.intro (pk_in i 3 hi) ⟨pk_in (me i) 3 hm e1, pk_le (sz (me i)) q (fun z => by omega) (fun _ => ⟨pk_in i 3 hi, pk_in (4 * me i + q) 12 (by omega) (by rw [e1]; exact zx_k4 _ _), pk_in i 3 hi, by decide, pk_in (4 * i + q) 12 (by omega) (zx_k4 i q),
      nm_r (zf_upi _ (4 * i + q) (st (4 * me i + q) * sg i) (zx_k4 i q) (by omega) (by rw [e3, e4]; exact zf_rmul _ _)) (nm_r (nI_1 q) (ih _ ?_))⟩) e2⟩
    exact zm_srow_step st me sg (by omega)
theorem zx_startRow_23 {post : SX → Prop} {M : Nat} (hM : M ≤ 3) (hme : ∀ i, i < M → me i < 3) (ok : zm_OK sz st en sp)
    (H : post (nI M, w, b, zf_n sz, zf_c st, zf_c en, zf_c sp, zf_n me, zf_c sg, zf_c ro, zf_n co, zf_c re, zf_n pi, zf_c (zm_srow st me sg (4 * M)), zf_c nx, zf_c ke)) : ∃ n, wX_startRow_23 post (nI M) w b n 0 (zf_n sz) (zf_c st) (zf_c en) (zf_c sp) (zf_n me) (zf_c sg) (zf_c ro) (zf_n co) (zf_c re) (zf_n pi) (zf_c (zm_srow st me sg 0)) (zf_c nx) (zf_c ke) := by
  refine loop_0 (fun n i s => wX_startRow_23 post (nI M) w b n (nI i) (zf_n sz) (zf_c st) (zf_c en) (zf_c sp) (zf_n me) (zf_c sg) (zf_c ro) (zf_n co) (zf_c re) (zf_n pi) (zf_c s) (zf_c nx) (zf_c ke)) (fun i s => s = zm_srow st me sg (4 * i)) M _ rfl (fun n s hI => ?_) (fun n i s hi hI ih => ?_)
  · subst hI
    exact pk_le M M (fun _ => H) (fun z => by omega)
  · subst hI
    have hm := hme i hi
    exact pk_le M i (fun z => by omega) (fun _ => zx_startRow_33 (by omega) hm (ok.1 _ hm).2 (fun q hq hs => (ok.2.1 _ q hm hq hs).1) (ih _ rfl))
theorem zx_startRow {post : SX → Prop} {M : Nat} (hM : M ≤ 3) (hme : ∀ i, i < M → me i < 3) (ok : zm_OK sz st en sp) (h12 : ∀ j, 12 ≤ j → nw j = 0)
    (H : post (nI M, w, b, zf_n sz, zf_c st, zf_c en, zf_c sp, zf_n me, zf_c sg, zf_c ro, zf_n co, zf_c re, zf_n pi, zf_c (zm_srow st me sg (4 * M)), zf_c nx, zf_c ke)) : wpX_startRow post (nI M, w, b, zf_n sz, zf_c st, zf_c en, zf_c sp, zf_n me, zf_c sg, zf_c ro, zf_n co, zf_c re, zf_n pi, zf_c nw, zf_c nx, zf_c ke) := by
  refine loop_0 (fun n i s => wX_startRow_2 post (nI M) w b n (nI i) (zf_n sz) (zf_c st) (zf_c en) (zf_c sp) (zf_n me) (zf_c sg) (zf_c ro) (zf_n co) (zf_c re) (zf_n pi) (zf_c s) (zf_c nx) (zf_c ke)) (fun i s => ∀ j, (j < i ∨ 12 ≤ j) → s j = 0) 12 nw (fun j h => h12 j (by omega)) (fun n s hI => ?_) (fun n i s hi hI ih => ?_)
  · have e : s = zm_srow st me sg 0 := funext (fun j => (hI j (by omega)).trans (if_neg (by omega)).symm)
    subst e
    exact pk_le 12 12 (fun _ => zx_startRow_23 hM hme ok H) (fun z => by omega)
  · exact pk_le 12 i (fun z => by omega) (fun _ => ⟨pk_in i 12 hi, nm_r (zf_upi s i 0 rfl (by omega) rfl) (nm_r (nI_1 i) (ih _ (zx_fill (y := fun _ => 0) hI rfl)))⟩)
/-! advance -/
theorem zx_advance_53 {post : SX → Prop} {J : zx_J1}
    {l k : Nat} (hl : l < 2) (hk : k < 12) (hm : me (k / 4) < 3) (hs : sz (me (k / 4)) ≤ 4) (hz : ∀ p q, p < 4 → q < 4 → (sz (me (k / 4)) ≤ p ∨ sz (me (k / 4)) ≤ q) → sp (32 * me (k / 4) + 16 * l + 4 * p + q) = 0)
    (H : J (nI (k + 1)) (zf_n sz) (zf_c st) (zf_c en) (zf_c sp) (zf_n me) (zf_c sg) (zf_c ro) (zf_n co) (zf_c re) (zf_n pi) (zf_c nw) (zf_c (zm_pa sp me l nw (k + 1))) (zf_c ke)) : ∃ n, wX_advance_53 post J (nI l) (nI k) (nI (k / 4)) (nI (k % 4)) (nI (me (k / 4))) m w b n 0 (zf_n sz) (zf_c st) (zf_c en) (zf_c sp) (zf_n me) (zf_c sg) (zf_c ro) (zf_n co) (zf_c re) (zf_n pi) (zf_c nw) (zf_c (zm_pa sp me l nw k)) (zf_c ke) := by
  have e2 : zf_n sz (nI (me (k / 4))).toNatClampNeg = nI (sz (me (k / 4))) := zf_atn sz _ rfl (by omega)
  have e3 : zf_c nw (nI k).toNatClampNeg = zf_I (nw k) := zf_at nw k rfl (by omega)
  have hp : k % 4 < 4 := Nat.mod_lt _ (by decide)
  refine loop_0 (fun n q s => wX_advance_53 post J (nI l) (nI k) (nI (k / 4)) (nI (k % 4)) (nI (me (k / 4))) m w b n (nI q) (zf_n sz) (zf_c st) (zf_c en) (zf_c sp) (zf_n me) (zf_c sg) (zf_c ro) (zf_n co) (zf_c re) (zf_n pi) (zf_c nw) (zf_c s) (zf_c ke)) (fun q s => s = zm_pm sp me l nw k q) (sz (me (k / 4))) _ (zm_pm_0 sp me l nw k).symm (fun n s hI => ?_) (fun n q s hq hI ih => ?_)
  · subst hI
    refine And.intro (pk_in _ 3 hm) (pk_le (sz (me (k / 4))) (sz (me (k / 4))) (fun _ => nm_r (nI_1 k) ?_) (fun z => by omega) e2)
    rw [zm_pm_end _ _ _ _ _ _ (fun q' h1 h2 => hz _ q' hp h1 (Or.inr h2))]
    exact H
  · subst hI
    have e5 : zf_c sp (32 * nI (me (k / 4)) + 16 * nI l + 4 * nI (k % 4) + nI q).toNatClampNeg = zf_I (sp (32 * me (k / 4) + 16 * l + 4 * (k % 4) + q)) := zf_at sp _ (zx_kst _ _ _ _) (by omega)
    have e6 : zf_c (zm_pm sp me l nw k q) (4 * nI (k / 4) + nI q).toNatClampNeg = zf_I (zm_pm sp me l nw k q (4 * (k / 4) + q)) := zf_at _ _ (zx_k4 _ _) (by omega)
    refine And.intro (pk_in _ 3 hm) (pk_le (sz (me (k / 4))) q (fun z => by omega) (fun _ => ⟨pk_in _ 3 hm, pk_le (sz (me (k / 4))) (k % 4) (fun z => nm_r (nI_1 k) ?_) (fun z => ⟨pk_in k 12 hk, pk_in (32 * me (k / 4) + 16 * l + 4 * (k % 4) + q) 96 (by omega) (zx_kst _ _ _ _), nm_r (by rw [e3, e5]) ⟨pk_in (4 * (k / 4) + q) 12 (by omega) (zx_k4 _ _), by decide, pk_in (4 * (k / 4) + q) 12 (by omega) (zx_k4 _ _),
      nm_r (zf_upi _ (4 * (k / 4) + q) (zm_pm sp me l nw k q (4 * (k / 4) + q) + nw k * sp (32 * me (k / 4) + 16 * l + 4 * (k % 4) + q)) (zx_k4 _ _) (by omega) (by rw [e6]; exact zf_fma _ _ _)) (nm_r (nI_1 q) (ih _ ?_))⟩⟩) e2⟩) e2)
    · rw [zm_pm_end _ _ _ _ _ _ (fun q' h1 _ => hz _ q' hp h1 (Or.inl z))]
      exact H
    · exact zm_pm_step _ _ _ _ _ _ (by omega)
theorem zx_advance_152 {post : SX → Prop} (h12 : ∀ j, 12 ≤ j → nw j = 0) (hx12 : ∀ j, 12 ≤ j → nx j = 0) (H : post (m, w, b, zf_n sz, zf_c st, zf_c en, zf_c sp, zf_n me, zf_c sg, zf_c ro, zf_n co, zf_c re, zf_n pi, zf_c nx, zf_c nx, zf_c ke)) : ∃ n, wX_advance_152 post m w b n 0 (zf_n sz) (zf_c st) (zf_c en) (zf_c sp) (zf_n me) (zf_c sg) (zf_c ro) (zf_n co) (zf_c re) (zf_n pi) (zf_c nw) (zf_c nx) (zf_c ke) := by
  refine loop_0 (fun n i s => wX_advance_152 post m w b n (nI i) (zf_n sz) (zf_c st) (zf_c en) (zf_c sp) (zf_n me) (zf_c sg) (zf_c ro) (zf_n co) (zf_c re) (zf_n pi) (zf_c s) (zf_c nx) (zf_c ke)) (fun i s => ∀ j, (j < i ∨ 12 ≤ j) → s j = nx j) 12 nw (fun j h => by rw [h12 j (by omega), hx12 j (by omega)]) (fun n s hI => ?_) (fun n i s hi hI ih => ?_)
  · have e : s = nx := funext (fun j => hI j (by omega))
    subst e
    exact pk_le 12 12 (fun _ => H) (fun z => by omega)
  · exact pk_le 12 i (fun z => by omega) (fun _ => ⟨pk_in i 12 hi, pk_in i 12 hi, nm_r (zf_upi s i (nx i) rfl (by omega) (zf_at nx i rfl (by omega))) (nm_r (nI_1 i) (ih _ (zx_fill hI rfl)))⟩)
theorem zx_advance_23 {post : SX → Prop} {M l : Nat} (hM : M ≤ 3) (hme : ∀ i, i < M → me i < 3) (ok : zm_OK sz st en sp) (hl : l < 2) (h12 : ∀ j, 12 ≤ j → nw j = 0)
    (H : post (nI M, w, b, zf_n sz, zf_c st, zf_c en, zf_c sp, zf_n me, zf_c sg, zf_c ro, zf_n co, zf_c re, zf_n pi, zf_c (zm_pa sp me l nw (4 * M)), zf_c (zm_pa sp me l nw (4 * M)), zf_c ke)) : ∃ n, wX_advance_23 post (nI l) (nI M) w b n 0 (zf_n sz) (zf_c st) (zf_c en) (zf_c sp) (zf_n me) (zf_c sg) (zf_c ro) (zf_n co) (zf_c re) (zf_n pi) (zf_c nw) (zf_c (zm_pa sp me l nw 0)) (zf_c ke) := by
  refine loop_0 (fun n k s => wX_advance_23 post (nI l) (nI M) w b n (nI k) (zf_n sz) (zf_c st) (zf_c en) (zf_c sp) (zf_n me) (zf_c sg) (zf_c ro) (zf_n co) (zf_c re) (zf_n pi) (zf_c nw) (zf_c s) (zf_c ke)) (fun k s => s = zm_pa sp me l nw k) (4 * M) _ rfl (fun n s hI => ?_) (fun n k s hk hI ih => ?_)
  · subst hI
    exact pk_le (4 * M) (4 * M) (fun _ => zx_advance_152 h12 (fun j hj => zm_pa_supp _ _ _ _ M (by omega) _ (Nat.le_refl _)) H) (fun z => by omega) (zx_m4 M)
  · subst hI
    have hm := hme (k / 4) (by omega)
    refine pk_le (4 * M) k (fun z => by omega) (fun _ => nm_r (zx_sh2 (by omega)) (nm_r (zx_an3 (by omega)) ⟨pk_in (k / 4) 3 (by omega), nm_r (zf_atn me (k / 4) rfl (by omega)) ?_⟩)) (zx_m4 M)
    exact zx_advance_53 hl (by omega) hm (ok.1 _ hm).2 (fun p q hp hq h => ok.2.2 _ l p q hm hl hp hq h) (ih _ rfl)
theorem zx_advance {post : SX → Prop} {M l : Nat} (hM : M ≤ 3) (hme : ∀ i, i < M → me i < 3) (ok : zm_OK sz st en sp) (hl : l < 2) (h12 : ∀ j, 12 ≤ j → nw j = 0) (hx12 : ∀ j, 12 ≤ j → nx j = 0)
    (H : post (nI M, w, b, zf_n sz, zf_c st, zf_c en, zf_c sp, zf_n me, zf_c sg, zf_c ro, zf_n co, zf_c re, zf_n pi, zf_c (zm_pa sp me l nw (4 * M)), zf_c (zm_pa sp me l nw (4 * M)), zf_c ke)) : wpX_advance post (nI M, w, b, zf_n sz, zf_c st, zf_c en, zf_c sp, zf_n me, zf_c sg, zf_c ro, zf_n co, zf_c re, zf_n pi, zf_c nw, zf_c nx, zf_c ke) (nI l) := by
  refine loop_0 (fun n i s => wX_advance_2 post (nI l) (nI M) w b n (nI i) (zf_n sz) (zf_c st) (zf_c en) (zf_c sp) (zf_n me) (zf_c sg) (zf_c ro) (zf_n co) (zf_c re) (zf_n pi) (zf_c nw) (zf_c s) (zf_c ke)) (fun i s => ∀ j, (j < i ∨ 12 ≤ j) → s j = 0) 12 nx (fun j h => hx12 j (by omega)) (fun n s hI => ?_) (fun n i s hi hI ih => ?_)
  · have e : s = zm_pa sp me l nw 0 := funext (fun j => hI j (by omega))
    subst e
    exact pk_le 12 12 (fun _ => zx_advance_23 hM hme ok hl h12 H) (fun z => by omega)
  · exact pk_le 12 i (fun z => by omega) (fun _ => ⟨pk_in i 12 hi, nm_r (zf_upi s i 0 rfl (by omega) rfl) (nm_r (nI_1 i) (ih _ (zx_fill (y := fun _ => 0) hI rfl)))⟩)
/-! endValue -/
theorem zx_endValue {post : Int32 → Prop} {M : Nat} (hM : M ≤ 3) (hme : ∀ i, i < M → me i < 3) (H : post (zf_I (zm_ev en me nw (4 * M)))) : wpX_endValue post (nI M, w, b, zf_n sz, zf_c st, zf_c en, zf_c sp, zf_n me, zf_c sg, zf_c ro, zf_n co, zf_c re, zf_n pi, zf_c nw, zf_c nx, zf_c ke) := by
  refine loop_0 (fun n k s => wX_endValue_4 post (nI M) w b (zf_n sz) (zf_c st) (zf_c en) (zf_c sp) (zf_n me) (zf_c sg) (zf_c ro) (zf_n co) (zf_c re) (zf_n pi) (zf_c nw) (zf_c nx) (zf_c ke) n (zf_I s) (nI k)) (fun k s => s = zm_ev en me nw k) (4 * M) 0 rfl (fun n s hI => ?_) (fun n k s hk hI ih => ?_)
  · subst hI
    exact pk_le (4 * M) (4 * M) (fun _ => H) (fun z => by omega) (zx_m4 M)
  · subst hI
    have hm := hme (k / 4) (by omega)
    have e1 : nI k >>> ((2 : Int32) &&& 31) = nI (k / 4) := zx_sh2 (by omega)
    have e2 : nI k &&& 3 = nI (k % 4) := zx_an3 (by omega)
    have e3 : zf_n me (nI k >>> ((2 : Int32) &&& 31)).toNatClampNeg = nI (me (k / 4)) := zf_atn me (k / 4) e1 (by omega)
    have e4 : 4 * zf_n me (nI k >>> ((2 : Int32) &&& 31)).toNatClampNeg + (nI k &&& 3) = nI (4 * me (k / 4) + k % 4) := by rw [e3, e2, zx_k4]
    have e5 : zf_c en (4 * zf_n me (nI k >>> ((2 : Int32) &&& 31)).toNatClampNeg + (nI k &&& 3)).toNatClampNeg = zf_I (en (4 * me (k / 4) + k % 4)) := zf_at en _ e4 (by omega)
    have e6 : zf_c nw (nI k).toNatClampNeg = zf_I (nw k) := zf_at nw k rfl (by omega)
    refine pk_le (4 * M) k (fun z => by omega) (fun _ => ⟨pk_in k 12 (by omega), pk_in (k / 4) 3 (by omega) e1, pk_in (4 * me (k / 4) + k % 4) 12 (by omega) e4, by decide, nm_r (e' := zf_I (zm_ev en me nw (k + 1))) (by rw [e5, e6]; exact zf_fma _ _ _) (nm_r (nI_1 k) (ih _ rfl))⟩) (zx_m4 M)
end
end
section
section
variable {m w b : Int32} {sz : Nat → Nat} {st en sp : Nat → zf_F} {me : Nat → Nat} {sg ro : Nat → zf_F} {co : Nat → Nat} {re : Nat → zf_F} {pi : Nat → Nat} {nw nx ke : Nat → zf_F}
theorem zf_sub0 (x : zf_F) : x - 0 = x := by grind
/-! enterBasis -/
theorem zx_mix_step {s u v : zf_V} {k : Nat} (hs : ∀ j, s j = if j < k then u j else v j) : ∀ j, zf_u s k (u k) j = if j < k + 1 then u j else v j := by
  intro j
  by_cases e : j = k
  · subst e; rw [zf_us, if_pos (by omega)]
  · rw [zf_un e, hs]
    by_cases h : j < k
    · rw [if_pos h, if_pos (by omega)]
    · rw [if_neg h, if_neg (by omega)]
theorem zx_enterBasis_50 {post : Int32 → SX → Prop} {J : zx_J1} {c : Nat} (hc : c < 14)
    (H : J (nI (c + 1)) (zf_n sz) (zf_c st) (zf_c en) (zf_c sp) (zf_n me) (zf_c sg) (zf_c ro) (zf_n co) (zf_c re) (zf_n pi) (zf_c nw) (zf_c (zm_rd re pi nw (c + 1))) (zf_c ke)) : ∃ n, wX_enterBasis_50 post J (nI c) (zf_I (zm_rd re pi nw c (pi c))) m w b n 0 (zf_n sz) (zf_c st) (zf_c en) (zf_c sp) (zf_n me) (zf_c sg) (zf_c ro) (zf_n co) (zf_c re) (zf_n pi) (zf_c nw) (zf_c (zm_rd re pi nw c)) (zf_c ke) := by
  refine loop_0 (fun n k s => wX_enterBasis_50 post J (nI c) (zf_I (zm_rd re pi nw c (pi c))) m w b n (nI k) (zf_n sz) (zf_c st) (zf_c en) (zf_c sp) (zf_n me) (zf_c sg) (zf_c ro) (zf_n co) (zf_c re) (zf_n pi) (zf_c nw) (zf_c s) (zf_c ke)) (fun k s => ∀ j, s j = if j < k then zm_rd re pi nw (c + 1) j else zm_rd re pi nw c j) 12 _ (fun j => (if_neg (by omega)).symm) (fun n s hI => ?_) (fun n k s hk hI ih => ?_)
  · have e : s = zm_rd re pi nw (c + 1) := by
      funext j
      rw [hI]
      by_cases h : j < 12
      · rw [if_pos h]
      · rw [if_neg h]
        show _ = zm_rd re pi nw c j - zm_rd re pi nw c (pi c) * (if j < 12 then _ else _)
        rw [if_neg h, Fin.mul_zero, zf_sub0]
    subst e
    exact pk_le 12 12 (fun _ => nm_r (nI_1 c) H) (fun z => by omega)
  · refine pk_le 12 k (fun z => by omega) (fun _ => ?_)
    by_cases hf : zm_rd re pi nw c (pi c) = 0
    · refine br_t (zf_Iz.mpr hf) (nm_r (nI_1 c) ?_)
      have e : s = zm_rd re pi nw (c + 1) := by
        funext j
        have e2 : zm_rd re pi nw (c + 1) j = zm_rd re pi nw c j := by
          show zm_rd re pi nw c j - zm_rd re pi nw c (pi c) * zm_row re c j = _
          rw [hf, Fin.zero_mul, zf_sub0]
        rw [hI, e2]
        by_cases h : j < k
        · rw [if_pos h]
        · rw [if_neg h]
      rw [e]; exact H
    · have e1 : zf_c s (nI k).toNatClampNeg = zf_I (zm_rd re pi nw c k) := by
        rw [zf_at s k rfl (by omega), hI, if_neg (by omega)]
      have e2 : zf_c re (12 * nI c + nI k).toNatClampNeg = zf_I (re (12 * c + k)) := zf_at re _ (zx_k12 _ _) (by omega)
      have e3 : zm_rd re pi nw (c + 1) k = zm_rd re pi nw c k - zm_rd re pi nw c (pi c) * re (12 * c + k) := by
        show zm_rd re pi nw c k - zm_rd re pi nw c (pi c) * (if k < 12 then _ else _) = _
        rw [if_pos hk]
      refine br_f (fun z => hf (zf_Iz.mp z)) ⟨pk_in k 12 hk, pk_in (12 * c + k) 168 (by omega) (zx_k12 _ _), by decide, pk_in k 12 hk, nm_r (zf_upi s k (zm_rd re pi nw (c + 1) k) rfl (by omega) (by rw [e1, e2, e3]; exact zf_fms _ _ _)) (nm_r (nI_1 k) (ih _ (zx_mix_step hI)))⟩
theorem zx_enterBasis_149 {post : Int32 → SX → Prop} {B P : Nat} {v : zf_F} (hB : B < 14)
    (H : ∀ re' : Nat → zf_F, (∀ j, j < 12 * B → re' j = re j) → (∀ j, j < 12 → re' (12 * B + j) = nx j * v) → post 1 (m, w, nI (B + 1), zf_n sz, zf_c st, zf_c en, zf_c sp, zf_n me, zf_c sg, zf_c ro, zf_n co, zf_c re', zf_n (zf_u pi B P), zf_c nw, zf_c nx, zf_c ke)) : ∃ n, wX_enterBasis_149 post (nI P) (zf_I v) m w (nI B) n 0 (zf_n sz) (zf_c st) (zf_c en) (zf_c sp) (zf_n me) (zf_c sg) (zf_c ro) (zf_n co) (zf_c re) (zf_n pi) (zf_c nw) (zf_c nx) (zf_c ke) := by
  refine loop_0 (fun n k s => wX_enterBasis_149 post (nI P) (zf_I v) m w (nI B) n (nI k) (zf_n sz) (zf_c st) (zf_c en) (zf_c sp) (zf_n me) (zf_c sg) (zf_c ro) (zf_n co) (zf_c s) (zf_n pi) (zf_c nw) (zf_c nx) (zf_c ke)) (fun k s => (∀ j, j < k → s (12 * B + j) = nx j * v) ∧ ∀ j, j < 12 * B → s j = re j) 12 re ⟨fun j hj => by omega, fun _ _ => rfl⟩ (fun n s hI => ?_) (fun n k s hk hI ih => ?_)
  · exact pk_le 12 12 (fun _ => ⟨pk_in B 14 hB, nm_r (zf_upni pi B P rfl (by omega) rfl) (nm_r (nI_1 B) (H s hI.2 hI.1))⟩) (fun z => by omega)
  · have e1 : zf_c nx (nI k).toNatClampNeg = zf_I (nx k) := zf_at nx k rfl (by omega)
    exact pk_le 12 k (fun z => by omega) (fun _ => ⟨pk_in k 12 hk, by decide, pk_in (12 * B + k) 168 (by omega) (zx_k12 _ _), nm_r (zf_upi s (12 * B + k) (nx k * v) (zx_k12 _ _) (by omega) (by rw [e1]; exact zf_rmul _ _)) (nm_r (nI_1 k) (ih _ (zx_fillat (v := fun j => nx j * v) hI rfl)))⟩)
theorem zx_enterBasis_108 {post : Int32 → SX → Prop} (H0 : (∀ j, j < 12 → nx j = 0) → post 0 (m, w, b, zf_n sz, zf_c st, zf_c en, zf_c sp, zf_n me, zf_c sg, zf_c ro, zf_n co, zf_c re, zf_n pi, zf_c nw, zf_c nx, zf_c ke)) (H1 : ∀ P, P < 12 → nx P ≠ 0 → wX_enterBasis_129 post (nI P) m w b (zf_n sz) (zf_c st) (zf_c en) (zf_c sp) (zf_n me) (zf_c sg) (zf_c ro) (zf_n co) (zf_c re) (zf_n pi) (zf_c nw) (zf_c nx) (zf_c ke)) : ∃ n, wX_enterBasis_108 post m w b (zf_n sz) (zf_c st) (zf_c en) (zf_c sp) (zf_n me) (zf_c sg) (zf_c ro) (zf_n co) (zf_c re) (zf_n pi) (zf_c nw) (zf_c nx) (zf_c ke) n 0 := by
  refine loop_0 (fun n i (_ : Unit) => wX_enterBasis_108 post m w b (zf_n sz) (zf_c st) (zf_c en) (zf_c sp) (zf_n me) (zf_c sg) (zf_c ro) (zf_n co) (zf_c re) (zf_n pi) (zf_c nw) (zf_c nx) (zf_c ke) n (nI i)) (fun i _ => ∀ j, j < i → nx j = 0) 12 () (fun j hj => by omega) (fun n s hI => ?_) (fun n i s hi hI ih => ?_)
  · exact pk_le 12 12 (fun _ => br_t rfl (H0 hI)) (fun z => by omega)
  · refine pk_le 12 i (fun z => by omega) (fun _ => ⟨pk_in i 12 hi, ?_⟩)
    have e : zf_c nx (nI i).toNatClampNeg = zf_I (nx i) := zf_at nx i rfl (by omega)
    by_cases hz : nx i = 0
    · refine br_t (by rw [e, hz]; rfl) (nm_r (nI_1 i) (ih () (fun j hj => ?_)))
      by_cases ej : j = i
      · subst ej; exact hz
      · exact hI j (by omega)
    · exact br_f (by rw [e]; exact fun z => hz (zf_Iz.mp z)) (H1 i hi hz)
theorem zx_enterBasis_28 {post : Int32 → SX → Prop} {B : Nat} (hB : B ≤ 13) (hp : ∀ c, c < B → pi c < 12)
    (H0 : (∀ j, j < 12 → zm_rd re pi nw B j = 0) → post 0 (m, w, nI B, zf_n sz, zf_c st, zf_c en, zf_c sp, zf_n me, zf_c sg, zf_c ro, zf_n co, zf_c re, zf_n pi, zf_c nw, zf_c (zm_rd re pi nw B), zf_c ke))
    (H1 : ∀ P re', P < 12 → zm_rd re pi nw B P ≠ 0 → (∀ j, j < 12 * B → re' j = re j) → (∀ j, j < 12 → re' (12 * B + j) = zm_rd re pi nw B j * zf_inv (zm_rd re pi nw B P)) → post 1 (m, w, nI (B + 1), zf_n sz, zf_c st, zf_c en, zf_c sp, zf_n me, zf_c sg, zf_c ro, zf_n co, zf_c re', zf_n (zf_u pi B P), zf_c nw, zf_c (zm_rd re pi nw B), zf_c ke)) :
    ∃ n, wX_enterBasis_28 post m w (nI B) n 0 (zf_n sz) (zf_c st) (zf_c en) (zf_c sp) (zf_n me) (zf_c sg) (zf_c ro) (zf_n co) (zf_c re) (zf_n pi) (zf_c nw) (zf_c (zm_rd re pi nw 0)) (zf_c ke) := by
  refine loop_0 (fun n c s => wX_enterBasis_28 post m w (nI B) n (nI c) (zf_n sz) (zf_c st) (zf_c en) (zf_c sp) (zf_n me) (zf_c sg) (zf_c ro) (zf_n co) (zf_c re) (zf_n pi) (zf_c nw) (zf_c s) (zf_c ke)) (fun c s => s = zm_rd re pi nw c) B _ rfl (fun n s hI => ?_) (fun n c s hc hI ih => ?_)
  · subst hI
    refine pk_le B B (fun _ => zx_enterBasis_108 H0 (fun P hP hn => ?_)) (fun z => by omega)
    have e : zf_c (zm_rd re pi nw B) (nI P).toNatClampNeg = zf_I (zm_rd re pi nw B P) := zf_at _ P rfl (by omega)
    refine pk_eq P 12 (fun z => by omega) (fun _ => ⟨pk_in P 12 hP, ?_⟩)
    rw [e]
    exact zx_inverse _ (zx_enterBasis_149 (by omega) (fun re' h1 h2 => H1 P re' hP hn h1 h2))
  · subst hI
    refine pk_le B c (fun z => by omega) (fun _ => ⟨pk_in c 14 (by omega), pk_in (pi c) 12 (hp c hc) (zf_atn pi c rfl (by omega)), nm_r (zf_at _ (pi c) (zf_atn pi c rfl (by omega)) (by have := hp c hc; omega)) ?_⟩)
    exact zx_enterBasis_50 (by omega) (ih _ rfl)
theorem zx_row_old {re re' : Nat → zf_F} {B : Nat} (h : ∀ j, j < 12 * B → re' j = re j) : ∀ c, c < B → zm_row re' c = zm_row re c := by
  intro c hc
  funext j
  unfold zm_row
  by_cases hj : j < 12
  · rw [if_pos hj, if_pos hj, h _ (by omega)]
  · rw [if_neg hj, if_neg hj]
theorem zx_row_new {re' : Nat → zf_F} {x : zf_V} {B : Nat} (hx : ∀ j, 12 ≤ j → x j = 0) (h : ∀ j, j < 12 → re' (12 * B + j) = x j) : zm_row re' B = x := by
  funext j
  unfold zm_row
  by_cases hj : j < 12
  · rw [if_pos hj, h j hj]
  · rw [if_neg hj, hx j (by omega)]
/-- the row at hand enters the basis, or is a combination -/
theorem zx_enterBasis {post : Int32 → SX → Prop} {D B : Nat} (hD : D ≤ 12) (Q : zm_Q D B re pi) (hx : ∀ j, D ≤ j → nw j = 0) (hx12 : ∀ j, 12 ≤ j → nx j = 0)
    (H0 : ∀ y : zf_V, (∀ j, 12 ≤ j → y j = 0) → (∀ j, zm_rd re pi nw B j = 0) → post 0 (m, w, nI B, zf_n sz, zf_c st, zf_c en, zf_c sp, zf_n me, zf_c sg, zf_c ro, zf_n co, zf_c re, zf_n pi, zf_c nw, zf_c y, zf_c ke))
    (H1 : ∀ (P : Nat) (re' : Nat → zf_F) (y : zf_V), (∀ j, 12 ≤ j → y j = 0) → zm_rd re pi nw B P ≠ 0 → (∀ c, c < B → zm_row re' c = zm_row re c) → (∀ j, zm_row re' B j = zm_rd re pi nw B j * zf_inv (zm_rd re pi nw B P)) → post 1 (m, w, nI (B + 1), zf_n sz, zf_c st, zf_c en, zf_c sp, zf_n me, zf_c sg, zf_c ro, zf_n co, zf_c re', zf_n (zf_u pi B P), zf_c nw, zf_c y, zf_c ke)) :
    wpX_enterBasis post (m, w, nI B, zf_n sz, zf_c st, zf_c en, zf_c sp, zf_n me, zf_c sg, zf_c ro, zf_n co, zf_c re, zf_n pi, zf_c nw, zf_c nx, zf_c ke) := by
  have hB := zm_Q_dim Q
  have hs : ∀ j, 12 ≤ j → zm_rd re pi nw B j = 0 := fun j hj => zm_rd_supp Q hx B (Nat.le_refl _) j (by omega)
  refine loop_0 (fun n i s => wX_enterBasis_2 post m w (nI B) n (nI i) (zf_n sz) (zf_c st) (zf_c en) (zf_c sp) (zf_n me) (zf_c sg) (zf_c ro) (zf_n co) (zf_c re) (zf_n pi) (zf_c nw) (zf_c s) (zf_c ke)) (fun i s => ∀ j, (j < i ∨ 12 ≤ j) → s j = nw j) 12 nx (fun j h => by rw [hx12 j (by omega), hx j (by omega)]) (fun n s hI => ?_) (fun n i s hi hI ih => ?_)
  · have e : s = zm_rd re pi nw 0 := funext (fun j => hI j (by omega))
    subst e
    refine pk_le 12 12 (fun _ => zx_enterBasis_28 (by omega) (fun c hc => by have := (Q c hc).1; omega) (fun h => H0 _ hs (fun j => ?_)) (fun P re' hP hn h1 h2 => H1 P re' _ hs hn (zx_row_old h1) (fun j => ?_))) (fun z => by omega)
    · by_cases hj : j < 12
      · exact h j hj
      · exact hs j (by omega)
    · have := zx_row_new (re' := re') (x := fun j => zm_rd re pi s B j * zf_inv (zm_rd re pi s B P)) (fun j hj => by rw [hs j hj, Fin.zero_mul]) h2
      rw [this]
  · exact pk_le 12 i (fun z => by omega) (fun _ => ⟨pk_in i 12 hi, pk_in i 12 hi, nm_r (zf_upi s i (nw i) rfl (by omega) (zf_at nw i rfl (by omega))) (nm_r (nI_1 i) (ih _ (zx_fill hI rfl)))⟩)
/-! keepRow, takeRow -/
theorem zx_keepRow_11 {post : SX → Prop} {W code : Nat} (hW : W < 14)
    (H : ∀ ro' : Nat → zf_F, (∀ j, j < 12 * W → ro' j = ro j) → (∀ j, j < 12 → ro' (12 * W + j) = nw j) → post (m, nI (W + 1), b, zf_n sz, zf_c st, zf_c en, zf_c sp, zf_n me, zf_c sg, zf_c ro', zf_n (zf_u co W code), zf_c re, zf_n pi, zf_c nw, zf_c nx, zf_c ke)) : ∃ n, wX_keepRow_11 post (nI code) m (nI W) b n 0 (zf_n sz) (zf_c st) (zf_c en) (zf_c sp) (zf_n me) (zf_c sg) (zf_c ro) (zf_n co) (zf_c re) (zf_n pi) (zf_c nw) (zf_c nx) (zf_c ke) := by
  refine loop_0 (fun n k s => wX_keepRow_11 post (nI code) m (nI W) b n (nI k) (zf_n sz) (zf_c st) (zf_c en) (zf_c sp) (zf_n me) (zf_c sg) (zf_c s) (zf_n co) (zf_c re) (zf_n pi) (zf_c nw) (zf_c nx) (zf_c ke)) (fun k s => (∀ j, j < k → s (12 * W + j) = nw j) ∧ ∀ j, j < 12 * W → s j = ro j) 12 ro ⟨fun j hj => by omega, fun _ _ => rfl⟩ (fun n s hI => ?_) (fun n k s hk hI ih => ?_)
  · exact pk_le 12 12 (fun _ => ⟨pk_in W 14 hW, nm_r (zf_upni co W code rfl (by omega) rfl) (nm_r (nI_1 W) (H s hI.2 hI.1))⟩) (fun z => by omega)
  · exact pk_le 12 k (fun z => by omega) (fun _ => ⟨pk_in k 12 hk, pk_in (12 * W + k) 168 (by omega) (zx_k12 _ _), nm_r (zf_upi s (12 * W + k) (nw k) (zx_k12 _ _) (by omega) (zf_at nw k rfl (by omega))) (nm_r (nI_1 k) (ih _ (zx_fillat hI rfl)))⟩)
theorem zx_keepRow {post : SX → Prop} {D B code : Nat} (hD : D ≤ 12) (K : zm_K D B re pi ro) (hx : ∀ j, D ≤ j → nw j = 0) (hx12 : ∀ j, 12 ≤ j → nx j = 0)
    (H0 : ∀ y : zf_V, (∀ j, 12 ≤ j → y j = 0) → zl_Sp (zm_row ro) B nw → post (m, nI B, nI B, zf_n sz, zf_c st, zf_c en, zf_c sp, zf_n me, zf_c sg, zf_c ro, zf_n co, zf_c re, zf_n pi, zf_c nw, zf_c y, zf_c ke))
    (H1 : ∀ (re' : Nat → zf_F) (pi' : Nat → Nat) (ro' : Nat → zf_F) (y : zf_V), (∀ j, 12 ≤ j → y j = 0) → zm_K D (B + 1) re' pi' ro' → (∀ c, c < B → zm_row ro' c = zm_row ro c) → zm_row ro' B = nw → post (m, nI (B + 1), nI (B + 1), zf_n sz, zf_c st, zf_c en, zf_c sp, zf_n me, zf_c sg, zf_c ro', zf_n (zf_u co B code), zf_c re', zf_n pi', zf_c nw, zf_c y, zf_c ke)) :
    wpX_keepRow post (m, nI B, nI B, zf_n sz, zf_c st, zf_c en, zf_c sp, zf_n me, zf_c sg, zf_c ro, zf_n co, zf_c re, zf_n pi, zf_c nw, zf_c nx, zf_c ke) (nI code) := by
  have hB := zm_Q_dim K.1
  unfold wpX_keepRow
  refine zx_enterBasis hD K.1 hx hx12 (fun y hy hz => ?_) (fun P re' y hy hn h1 h2 => ?_)
  · exact br_t rfl (H0 y hy (zl_le K.2 (zm_Q_in hz)))
  · refine br_f (by decide) (zx_keepRow_11 (by omega) (fun ro' h3 h4 => ?_))
    have e3 := zx_row_old h3
    have e4 := zx_row_new (x := nw) (fun j hj => hx j (by omega)) h4
    exact H1 re' _ ro' y hy (zm_K_S K hx hn h1 h2 e3 e4) e3 e4
theorem zx_takeRow {post : SX → Prop} {k : Nat} (hk : k < 14) (h12 : ∀ j, 12 ≤ j → nw j = 0) (H : post (m, w, b, zf_n sz, zf_c st, zf_c en, zf_c sp, zf_n me, zf_c sg, zf_c ro, zf_n co, zf_c re, zf_n pi, zf_c (zm_row ro k), zf_c nx, zf_c ke)) : wpX_takeRow post (m, w, b, zf_n sz, zf_c st, zf_c en, zf_c sp, zf_n me, zf_c sg, zf_c ro, zf_n co, zf_c re, zf_n pi, zf_c nw, zf_c nx, zf_c ke) (nI k) := by
  refine loop_0 (fun n i s => wX_takeRow_2 post (nI k) m w b n (nI i) (zf_n sz) (zf_c st) (zf_c en) (zf_c sp) (zf_n me) (zf_c sg) (zf_c ro) (zf_n co) (zf_c re) (zf_n pi) (zf_c s) (zf_c nx) (zf_c ke)) (fun i s => ∀ j, (j < i ∨ 12 ≤ j) → s j = zm_row ro k j) 12 nw (fun j h => by rw [h12 j (by omega)]; exact (if_neg (by omega)).symm) (fun n s hI => ?_) (fun n i s hi hI ih => ?_)
  · have e : s = zm_row ro k := funext (fun j => hI j (by omega))
    subst e
    exact pk_le 12 12 (fun _ => H) (fun z => by omega)
  · have e : zm_row ro k i = ro (12 * k + i) := if_pos hi
    exact pk_le 12 i (fun z => by omega) (fun _ => ⟨pk_in (12 * k + i) 168 (by omega) (zx_k12 _ _), pk_in i 12 hi, nm_r (zf_upi s i (zm_row ro k i) rfl (by omega) (by rw [e]; exact zf_at ro _ (zx_k12 _ _) (by omega))) (nm_r (nI_1 i) (ih _ (zx_fill hI rfl)))⟩)
end
end
section
/-! the search, its law without the program -/
def zm_L (vw : Nat → zf_V) (co : Nat → Nat) (B c : Nat) (v : zf_V) : Prop := ∀ S : zf_V → Prop, zl_Sub S → (∀ i, i < B → co i ≤ c → S (vw (co i))) → S v
def zm_SI (vw : Nat → zf_V) (val : zf_V → zf_F) (B : Nat) (ro : Nat → zf_F) (co : Nat → Nat) (k l : Nat) : Prop :=
  (∀ i, i < B → zm_row ro i = vw (co i) ∧ 1 ≤ co i ∧ co i < 2 ^ (i + 1) ∧ val (vw (co i)) = 0) ∧ (∀ i j, i < j → j < B → co i < co j) ∧ zm_L vw co B 1 (vw 1) ∧
  (∀ i l', i < B → l' < 2 → (i < k ∨ (i = k ∧ l' < l)) → zm_L vw co B (2 * co i + l') (vw (2 * co i + l'))) ∧ (k < B → ∀ i, i < B → co i < 2 * co k + l)
theorem zm_SI_all {T : Nat → zf_V → zf_V} {v0 : zf_V} {val : zf_V → zf_F} (hT : ∀ l, zl_Lin (T l)) {B : Nat} {ro : Nat → zf_F} {co : Nat → Nat} {k l : Nat} (h : zm_SI (zm_vw T v0) val B ro co k l) :
    ∀ c, 1 ≤ c → (∀ i l', i < B → l' < 2 → 2 * co i + l' ≤ c → (i < k ∨ (i = k ∧ l' < l))) → zm_L (zm_vw T v0) co B c (zm_vw T v0 c) := by
  intro c
  induction c using Nat.strongRecOn with
  | ind c ih =>
    intro hc hp
    by_cases e : c = 1
    · subst e; exact h.2.2.1
    · intro S hS hi
      have hu := ih (c / 2) (by omega) (by omega) (fun i l' h1 h2 h3 => hp i l' h1 h2 (by omega))
      rw [zm_vw_h _ _ (by omega)]
      refine hu (fun v => S (T (c % 2) v)) (zl_pre_Sub (hT _) hS) (fun i hiB hic => ?_)
      have hl : c % 2 < 2 := Nat.mod_lt _ (by decide)
      show S (T (c % 2) (zm_vw T v0 (co i)))
      rw [← zm_vw_s T v0 (h.1 i hiB).2.1 hl]
      exact h.2.2.2.1 i (c % 2) hiB hl (hp i (c % 2) hiB hl (by omega)) S hS (fun i' h1 h2 => hi i' h1 (by omega))
theorem zm_SI_val {vw : Nat → zf_V} {val : zf_V → zf_F} (hv : zl_Fun val) {B : Nat} {ro : Nat → zf_F} {co : Nat → Nat} {k l c : Nat} (h : zm_SI vw val B ro co k l) {v : zf_V} (hL : zm_L vw co B c v) : val v = 0 :=
  hL (fun v => val v = 0) (zl_ker_Sub hv) (fun i hi _ => (h.1 i hi).2.2.2)
theorem zm_SI_mono {vw : Nat → zf_V} {val : zf_V → zf_F} {B : Nat} {ro : Nat → zf_F} {co : Nat → Nat} {k l i j : Nat} (h : zm_SI vw val B ro co k l) (hi : i < B) (hj : j < B) (hc : co i ≤ co j) : i ≤ j := by
  apply Classical.byContradiction
  intro z
  have := h.2.1 j i (by omega) hi
  omega
theorem zm_SI_before {T : Nat → zf_V → zf_V} {v0 : zf_V} {val : zf_V → zf_F} (hT : ∀ l, zl_Lin (T l)) (hv : zl_Fun val) {B : Nat} {ro : Nat → zf_F} {co : Nat → Nat} {k l : Nat} (hk : k < B) (hl : l < 2) (h : zm_SI (zm_vw T v0) val B ro co k l) :
    ∀ d, 1 ≤ d → d < 2 * co k + l → val (zm_vw T v0 d) = 0 := by
  intro d h1 h2
  refine zm_SI_val hv h (zm_SI_all hT h d h1 (fun i l' hi hl' hle => ?_))
  have hik := zm_SI_mono h hi hk (by omega)
  by_cases e : i = k
  · subst e; right; exact ⟨rfl, by omega⟩
  · left; omega
theorem zm_SI_after {T : Nat → zf_V → zf_V} {v0 : zf_V} {val : zf_V → zf_F} (hT : ∀ l, zl_Lin (T l)) (hv : zl_Fun val) {B : Nat} {ro : Nat → zf_F} {co : Nat → Nat} {k l : Nat} (hk : B ≤ k) (h : zm_SI (zm_vw T v0) val B ro co k l) :
    ∀ d, 1 ≤ d → val (zm_vw T v0 d) = 0 := fun d h1 => zm_SI_val hv h (zm_SI_all hT h d h1 (fun i l' hi _ _ => Or.inl (by omega)))
theorem zm_SI_old {vw : Nat → zf_V} {val : zf_V → zf_F} {B : Nat} {ro : Nat → zf_F} {co : Nat → Nat} {k l : Nat} (hk : k < B) (h : zm_SI vw val B ro co k l) (hx : zl_Sp (zm_row ro) B (vw (2 * co k + l))) : zm_SI vw val B ro co k (l + 1) := by
  refine ⟨h.1, h.2.1, h.2.2.1, fun i l' hi hl' hp => ?_, fun _ i hi => by have := h.2.2.2.2 hk i hi; omega⟩
  by_cases e : i = k ∧ l' = l
  · obtain ⟨rfl, rfl⟩ := e
    intro S hS hc
    refine hx S hS (fun j hj => ?_)
    rw [(h.1 j hj).1]
    exact hc j hj (by have := h.2.2.2.2 hk j hj; omega)
  · exact h.2.2.2.1 i l' hi hl' (by omega)
theorem zm_L_grow {vw : Nat → zf_V} {co : Nat → Nat} {B x c : Nat} {v : zf_V} (h : zm_L vw co B c v) : zm_L vw (zf_u co B x) (B + 1) c v := by
  intro S hS hi
  refine h S hS (fun i h1 h2 => ?_)
  have e : zf_u co B x i = co i := zf_un (by omega)
  have := hi i (by omega) (by rw [e]; exact h2)
  rw [e] at this
  exact this
theorem zm_SI_new {vw : Nat → zf_V} {val : zf_V → zf_F} {B : Nat} {ro ro' : Nat → zf_F} {co : Nat → Nat} {k l : Nat} (hk : k < B) (hl : l < 2) (h : zm_SI vw val B ro co k l) (hv : val (vw (2 * co k + l)) = 0)
    (h3 : ∀ c, c < B → zm_row ro' c = zm_row ro c) (h4 : zm_row ro' B = vw (2 * co k + l)) : zm_SI vw val (B + 1) ro' (zf_u co B (2 * co k + l)) k (l + 1) := by
  have eo : ∀ i, i < B → zf_u co B (2 * co k + l) i = co i := fun i hi => zf_un (by omega)
  have en : zf_u co B (2 * co k + l) B = 2 * co k + l := zf_us
  refine ⟨fun i hi => ?_, fun i j hij hj => ?_, zm_L_grow h.2.2.1, fun i l' hi hl' hp => ?_, fun _ i hi => ?_⟩
  · by_cases e : i = B
    · subst e
      rw [en]
      have hb := (h.1 k hk).2.2.1
      have hc := (h.1 k hk).2.1
      have hpw : 2 ^ (k + 1) ≤ 2 ^ i := Nat.pow_le_pow_right (by decide) (by omega)
      have hp2 : 2 ^ (i + 1) = 2 * 2 ^ i := by rw [Nat.pow_succ]; omega
      exact ⟨h4, by omega, by omega, hv⟩
    · rw [eo i (by omega), h3 i (by omega)]
      exact h.1 i (by omega)
  · by_cases e : j = B
    · subst e
      rw [en, eo i (by omega)]
      exact h.2.2.2.2 hk i (by omega)
    · rw [eo i (by omega), eo j (by omega)]
      exact h.2.1 i j hij (by omega)
  · have hiB : i < B := by omega
    rw [eo i hiB]
    by_cases e : i = k ∧ l' = l
    · obtain ⟨rfl, rfl⟩ := e
      intro S hS hc
      have := hc B (by omega) (by rw [en]; exact Nat.le_refl _)
      rw [en] at this
      exact this
    · exact zm_L_grow (h.2.2.2.1 i l' hiB hl' (by omega))
  · rw [eo k hk]
    by_cases e : i = B
    · subst e; rw [en]; omega
    · rw [eo i (by omega)]
      have := h.2.2.2.2 hk i (by omega)
      omega
theorem zm_SI_next {vw : Nat → zf_V} {val : zf_V → zf_F} {B : Nat} {ro : Nat → zf_F} {co : Nat → Nat} {k : Nat} (hk : k < B) (h : zm_SI vw val B ro co k 2) : zm_SI vw val B ro co (k + 1) 0 := by
  refine ⟨h.1, h.2.1, h.2.2.1, fun i l' hi hl' hp => h.2.2.2.1 i l' hi hl' (by omega), fun hk1 i hi => ?_⟩
  have h1 := h.2.2.2.2 hk i hi
  have h2 := h.2.1 k (k + 1) (by omega) hk1
  omega
theorem zm_SI_0 {vw : Nat → zf_V} {val : zf_V → zf_F} {ro : Nat → zf_F} {co : Nat → Nat} (hx : zl_Sp (zm_row ro) 0 (vw 1)) : zm_SI vw val 0 ro co 0 0 :=
  ⟨fun i hi => absurd hi (Nat.not_lt_zero i), fun i j _ hj => absurd hj (Nat.not_lt_zero j), fun S hS _ => hx S hS (fun i hi => absurd hi (Nat.not_lt_zero i)), fun i l' hi => absurd hi (Nat.not_lt_zero i), fun h => absurd h (Nat.not_lt_zero 0)⟩
theorem zm_SI_1 {vw : Nat → zf_V} {val : zf_V → zf_F} {ro : Nat → zf_F} {co : Nat → Nat} (hv : val (vw 1) = 0) (h4 : zm_row ro 0 = vw 1) : zm_SI vw val 1 ro (zf_u co 0 1) 0 0 := by
  have e : ∀ i, i < 1 → zf_u co 0 1 i = 1 := fun i hi => by
    have : i = 0 := by omega
    subst this
    exact zf_us
  refine ⟨fun i hi => ?_, fun i j h1 h2 => by omega, fun S hS hi => ?_, fun i l' hi hl hp => by omega, fun _ i hi => ?_⟩
  · rw [e i hi]
    have : i = 0 := by omega
    subst this
    exact ⟨h4, by decide, by decide, hv⟩
  · have := hi 0 (by decide) (by rw [e 0 (by decide)]; exact Nat.le_refl _)
    rw [e 0 (by decide)] at this
    exact this
  · rw [e i hi, e 0 (by decide)]; decide
def zm_Res (vl : Nat → zf_F) (N c : Nat) : Prop := (c = 0 ∧ ∀ d, 1 ≤ d → vl d = 0) ∨ (1 ≤ c ∧ c < N ∧ vl c ≠ 0 ∧ ∀ d, 1 ≤ d → d < c → vl d = 0)
theorem zm_SI_found {T : Nat → zf_V → zf_V} {v0 : zf_V} {val : zf_V → zf_F} (hT : ∀ l, zl_Lin (T l)) (hv : zl_Fun val) {D B : Nat} {re ro : Nat → zf_F} {pi co : Nat → Nat} {k l : Nat} (hk : k < B) (hl : l < 2) (K : zm_K D B re pi ro) (h : zm_SI (zm_vw T v0) val B ro co k l)
    (hs : ∀ j, D ≤ j → zm_vw T v0 (2 * co k + l) j = 0) (hn : val (zm_vw T v0 (2 * co k + l)) ≠ 0) : zm_Res (fun d => val (zm_vw T v0 d)) (2 ^ D) (2 * co k + l) := by
  have hr : B + 1 ≤ D := zm_Q_room K.1 hs (fun z => hn (zl_ker0 hv (fun i hi => zl_ker0 hv (fun j hj => by rw [(h.1 j hj).1]; exact (h.1 j hj).2.2.2) (K.2 i hi)) z))
  have hb := (h.1 k hk).2.2.1
  have hc := (h.1 k hk).2.1
  have hpw : 2 ^ (k + 2) ≤ 2 ^ D := Nat.pow_le_pow_right (by decide) (by omega)
  have hp2 : 2 ^ (k + 2) = 2 * 2 ^ (k + 1) := by rw [Nat.pow_succ 2 (k + 1)]; omega
  exact Or.inr ⟨by omega, by omega, hn, zm_SI_before hT hv hk hl h⟩
/-! the search's walk -/
def zm_T (sp : Nat → zf_F) (me : Nat → Nat) (M : Nat) : Nat → zf_V → zf_V := fun l x => zm_pa sp me l x (4 * M)
def zm_rw (st sp : Nat → zf_F) (me : Nat → Nat) (sg : Nat → zf_F) (M : Nat) : Nat → zf_V := zm_vw (zm_T sp me M) (zm_srow st me sg (4 * M))
def zm_vl (en : Nat → zf_F) (me : Nat → Nat) (M : Nat) : zf_V → zf_F := fun x => zm_ev en me x (4 * M)
theorem zm_T_Lin (sp : Nat → zf_F) (me : Nat → Nat) (M l : Nat) : zl_Lin (zm_T sp me M l) := zm_pa_Lin sp me l (4 * M)
theorem zm_vl_Fun (en : Nat → zf_F) (me : Nat → Nat) (M : Nat) : zl_Fun (zm_vl en me M) := zm_ev_Fun en me (4 * M)
theorem zm_rw_supp (st sp : Nat → zf_F) (me : Nat → Nat) (sg : Nat → zf_F) (M c : Nat) (hc : 1 ≤ c) : ∀ j, 4 * M ≤ j → zm_rw st sp me sg M c j = 0 :=
  zm_vw_ind (P := fun v => ∀ j, 4 * M ≤ j → v j = 0) (fun j hj => zm_srow_supp _ _ _ hj) (fun l v _ _ j hj => zm_pa_supp _ _ _ _ M hj _ (Nat.le_refl _)) c hc
def zx_P (x : zf_V) : Prop := ∀ j, 12 ≤ j → x j = 0
section
variable {m w b : Int32} {sz : Nat → Nat} {st en sp : Nat → zf_F} {me : Nat → Nat} {sg : Nat → zf_F} {ke : Nat → zf_F}
theorem zx_search_46 {post : Int32 → SX → Prop} {J : zx_J4} {M k : Nat} (hM : M ≤ 3) (hme : ∀ i, i < M → me i < 3) (ok : zm_OK sz st en sp)
    (HJ : ∀ B ro co re pi nw nx, zx_P nw → zx_P nx → zm_K (4 * M) B re pi ro → zm_SI (zm_rw st sp me sg M) (zm_vl en me M) B ro co (k + 1) 0 → k + 1 ≤ B → J (nI (k + 1)) (nI M) (nI B) (nI B) (zf_n sz) (zf_c st) (zf_c en) (zf_c sp) (zf_n me) (zf_c sg) (zf_c ro) (zf_n co) (zf_c re) (zf_n pi) (zf_c nw) (zf_c nx) (zf_c ke))
    (HP : ∀ c B ro co re pi nw nx, zx_P nw → zx_P nx → zm_Res (fun d => zm_vl en me M (zm_rw st sp me sg M d)) (2 ^ (4 * M)) c → post (nI c) (nI M, nI B, nI B, zf_n sz, zf_c st, zf_c en, zf_c sp, zf_n me, zf_c sg, zf_c ro, zf_n co, zf_c re, zf_n pi, zf_c nw, zf_c nx, zf_c ke)) :
    ∀ d l, l + d = 2 → ∀ B ro co re pi nw nx, k < B → zx_P nw → zx_P nx → zm_K (4 * M) B re pi ro → zm_SI (zm_rw st sp me sg M) (zm_vl en me M) B ro co k l → wX_search_46 post J (nI k) (d + 1) (nI l) (nI M) (nI B) (nI B) (zf_n sz) (zf_c st) (zf_c en) (zf_c sp) (zf_n me) (zf_c sg) (zf_c ro) (zf_n co) (zf_c re) (zf_n pi) (zf_c nw) (zf_c nx) (zf_c ke) := by
  intro d
  induction d with
  | zero =>
    intro l hl B ro co re pi nw nx hk h12 hx12 K I
    have : l = 2 := by omega
    subst this
    exact pk_le 2 2 (fun _ => nm_r (nI_1 k) (HJ B ro co re pi nw nx h12 hx12 K (zm_SI_next hk I) hk)) (fun z => by omega)
  | succ d ih =>
    intro l hl B ro co re pi nw nx hk h12 hx12 K I
    have hB := zm_Q_dim K.1
    have hl2 : l < 2 := by omega
    have er : zm_row ro k = zm_rw st sp me sg M (co k) := (I.1 k hk).1
    have ev : zm_pa sp me l (zm_row ro k) (4 * M) = zm_rw st sp me sg M (2 * co k + l) := by
      rw [er]
      exact (zm_vw_s (zm_T sp me M) _ (I.1 k hk).2.1 hl2).symm
    have hsup := zm_rw_supp st sp me sg M (2 * co k + l) (by have := (I.1 k hk).2.1; omega)
    have hsup12 : zx_P (zm_rw st sp me sg M (2 * co k + l)) := fun j hj => hsup j (by omega)
    have ec : 2 * zf_n co (nI k).toNatClampNeg + nI l = nI (2 * co k + l) := by
      rw [zf_atn co k rfl (by omega), ← nI_add, ← pk_mul]; rfl
    refine pk_le 2 l (fun z => by omega) (fun _ => ?_)
    refine zx_takeRow (by omega) h12 ?_
    refine zx_advance hM hme ok hl2 (fun j hj => if_neg (by omega)) hx12 ?_
    rw [ev]
    refine zx_endValue hM hme ?_
    by_cases hz : zm_vl en me M (zm_rw st sp me sg M (2 * co k + l)) = 0
    · refine br_t (zf_Iz.mpr hz) ⟨pk_in k 14 (by omega), ?_⟩
      rw [ec]
      refine zx_keepRow (by omega) K hsup hsup12 (fun y hy hsp => ?_) (fun re' pi' ro' y hy K' h3 h4 => ?_)
      · exact nm_r (nI_1 l) (ih (l + 1) (by omega) B ro co re pi _ y hk hsup12 hy K (zm_SI_old hk I hsp))
      · exact nm_r (nI_1 l) (ih (l + 1) (by omega) (B + 1) ro' _ re' pi' _ y (by omega) hsup12 hy K' (zm_SI_new hk hl2 I hz h3 h4))
    · refine br_f (fun z => hz (zf_Iz.mp z)) ⟨pk_in k 14 (by omega), ?_⟩
      rw [ec]
      exact HP _ B ro co re pi _ _ hsup12 hsup12 (zm_SI_found (zm_T_Lin sp me M) (zm_vl_Fun en me M) hk hl2 K I hsup hz)
theorem zx_search_30 {post : Int32 → SX → Prop} {M : Nat} (hM : M ≤ 3) (hme : ∀ i, i < M → me i < 3) (ok : zm_OK sz st en sp)
    (HP : ∀ c B ro co re pi nw nx, zx_P nw → zx_P nx → zm_Res (fun d => zm_vl en me M (zm_rw st sp me sg M d)) (2 ^ (4 * M)) c → post (nI c) (nI M, nI B, nI B, zf_n sz, zf_c st, zf_c en, zf_c sp, zf_n me, zf_c sg, zf_c ro, zf_n co, zf_c re, zf_n pi, zf_c nw, zf_c nx, zf_c ke)) :
    ∀ d k, k + d = 12 → ∀ B ro co re pi nw nx, k ≤ B → zx_P nw → zx_P nx → zm_K (4 * M) B re pi ro → zm_SI (zm_rw st sp me sg M) (zm_vl en me M) B ro co k 0 → wX_search_30 post (d + 1) (nI k) (nI M) (nI B) (nI B) (zf_n sz) (zf_c st) (zf_c en) (zf_c sp) (zf_n me) (zf_c sg) (zf_c ro) (zf_n co) (zf_c re) (zf_n pi) (zf_c nw) (zf_c nx) (zf_c ke) := by
  intro d
  induction d with
  | zero =>
    intro k hk B ro co re pi nw nx hkB h12 hx12 K I
    have hB := zm_Q_dim K.1
    exact pk_le 12 k (fun _ => HP 0 B ro co re pi nw nx h12 hx12 (Or.inl ⟨rfl, zm_SI_after (zm_T_Lin sp me M) (zm_vl_Fun en me M) (by omega) I⟩)) (fun z => by omega)
  | succ d ih =>
    intro k hk B ro co re pi nw nx hkB h12 hx12 K I
    have hB := zm_Q_dim K.1
    refine pk_le 12 k (fun z => by omega) (fun _ => pk_le B k (fun z => HP 0 B ro co re pi nw nx h12 hx12 (Or.inl ⟨rfl, zm_SI_after (zm_T_Lin sp me M) (zm_vl_Fun en me M) z I⟩)) (fun z => ⟨3, ?_⟩))
    exact zx_search_46 hM hme ok (fun B ro co re pi nw nx h12 hx12 K I hkB => ih (k + 1) (by omega) B ro co re pi nw nx hkB h12 hx12 K I) HP 2 0 rfl B ro co re pi nw nx z h12 hx12 K I
theorem zx_search {post : Int32 → SX → Prop} {M : Nat} {ro re : Nat → zf_F} {co pi : Nat → Nat} {nw nx : Nat → zf_F} (hM1 : 1 ≤ M) (hM : M ≤ 3) (hme : ∀ i, i < M → me i < 3) (ok : zm_OK sz st en sp) (h12 : zx_P nw) (hx12 : zx_P nx)
    (HP : ∀ c B ro co re pi nw nx, zx_P nw → zx_P nx → zm_Res (fun d => zm_vl en me M (zm_rw st sp me sg M d)) (2 ^ (4 * M)) c → post (nI c) (nI M, nI B, nI B, zf_n sz, zf_c st, zf_c en, zf_c sp, zf_n me, zf_c sg, zf_c ro, zf_n co, zf_c re, zf_n pi, zf_c nw, zf_c nx, zf_c ke)) :
    wpX_search post (nI M, w, b, zf_n sz, zf_c st, zf_c en, zf_c sp, zf_n me, zf_c sg, zf_c ro, zf_n co, zf_c re, zf_n pi, zf_c nw, zf_c nx, zf_c ke) := by
  have e1 : zm_srow st me sg (4 * M) = zm_rw st sp me sg M 1 := (zm_vw_1 _ _).symm
  have hsup := zm_rw_supp st sp me sg M 1 (Nat.le_refl _)
  have hsup12 : zx_P (zm_rw st sp me sg M 1) := fun j hj => hsup j (by omega)
  unfold wpX_search
  refine zx_startRow (w := nI 0) (b := nI 0) hM hme ok h12 ?_
  rw [e1]
  refine zx_endValue hM hme ?_
  by_cases hz : zm_vl en me M (zm_rw st sp me sg M 1) = 0
  · refine br_t (zf_Iz.mpr hz) ?_
    refine zx_keepRow (code := 1) (B := 0) (D := 4 * M) (by omega) (zm_K_0 _ _ _ _) hsup hx12 (fun y hy hsp => ?_) (fun re' pi' ro' y hy K' h3 h4 => ?_)
    · exact ⟨13, zx_search_30 hM hme ok HP 12 0 rfl 0 ro co re pi _ y (Nat.le_refl _) hsup12 hy (zm_K_0 _ _ _ _) (zm_SI_0 hsp)⟩
    · exact ⟨13, zx_search_30 hM hme ok HP 12 0 rfl 1 ro' _ re' pi' _ y (by decide) hsup12 hy K' (zm_SI_1 hz h4)⟩
  · refine br_f (fun z => hz (zf_Iz.mp z)) ?_
    refine HP 1 0 ro co re pi _ nx hsup12 hx12 (Or.inr ⟨Nat.le_refl _, ?_, hz, fun d h1 h2 => by omega⟩)
    exact Nat.one_lt_two_pow (by omega)
end
end
section
/-! Y: the pure passes -/
def zm_cf (sp : Nat → zf_F) (a c p q : Nat) : zf_F := (if c = 1 then 0 else sp (32 * a + 4 * p + q)) + (if c = 0 then 0 else sp (32 * a + 16 + 4 * p + q))
def zm_gs (sp : Nat → zf_F) (a c : Nat) (x : zf_V) (q : Nat) : Nat → zf_F
  | 0 => 0
  | p + 1 => zm_gs sp a c x q p + x p * zm_cf sp a c p q
def zm_go (sp : Nat → zf_F) (a c : Nat) (x : zf_V) : zf_V := fun q => if q < 4 then zm_gs sp a c x q 4 else 0
def zm_yst (st : Nat → zf_F) (a : Nat) : zf_V := fun q => if q < 4 then st (4 * a + q) else 0
def zm_fs (en : Nat → zf_F) (a : Nat) (x : zf_V) : Nat → zf_F
  | 0 => 0
  | q + 1 => zm_fs en a x q + x q * en (4 * a + q)
def zm_yw (st sp : Nat → zf_F) (a : Nat) : Nat → zf_V := zm_vw (fun l x => zm_go sp a l x) (zm_yst st a)
def zm_wo (st en sp : Nat → zf_F) (a c : Nat) : zf_F := zm_fs en a (zm_yw st sp a c) 4
def zy_P (x : zf_V) : Prop := ∀ j, 4 ≤ j → x j = 0
theorem zm_go_P (sp : Nat → zf_F) (a c : Nat) (x : zf_V) : zy_P (zm_go sp a c x) := fun j hj => if_neg (by omega)
theorem zm_yst_P (st : Nat → zf_F) (a : Nat) : zy_P (zm_yst st a) := fun j hj => if_neg (by omega)
section
variable {sz : Nat → Nat} {st en sp yn yl yt : Nat → zf_F}
theorem zy_good {post : Int32 → Prop} {a : Nat} (ha : a < 3) (H : post 0) : wpY_bad post (zf_n sz, zf_c st, zf_c en, zf_c sp, zf_c yn, zf_c yl, zf_c yt) (nI a) := br_f (nI_pos (by omega)) (pk_le a 2 (fun _ => H) (fun z => by omega))
theorem zy_bad {post : Int32 → Prop} {v : Int32} (hv : v < 0 ∨ nI 3 ≤ v) (H : post 1) : wpY_bad post (zf_n sz, zf_c st, zf_c en, zf_c sp, zf_c yn, zf_c yl, zf_c yt) v := by
  by_cases h : v < 0
  · exact br_t h H
  · refine br_f h (br_f ?_ H)
    rcases hv with z | z
    · exact absurd z h
    · exact Int32.not_le.mpr (Int32.lt_of_lt_of_le (show (2 : Int32) < nI 3 by decide) z)
theorem zy_reduced {post : Int32 → Prop} (v : Int32) (H : post (zf_I (zf_red v))) : wpY_reduced post (zf_n sz, zf_c st, zf_c en, zf_c sp, zf_c yn, zf_c yl, zf_c yt) v := by
  refine And.intro (by decide) (nm_e ?_)
  exact br_c (fun h => by rw [(zf_modI v).1 h]; exact H) (fun h => by rw [(zf_modI v).2 h]; exact H)
/-! go -/
theorem zy_go_76 {post : SY → Prop} {J2 : zx_J7} {J : Int32 → Int32 → Prop} {x1 x2 x3 : Int32} {p : Nat} (hp : p < 4) {s v : zf_F} {x6 : Int32} (hx : x6 - x6 / 997 * 997 = zf_I v)
    (H : J (zf_I (s + yn p * v)) (nI (p + 1))) : wY_go_76 post J2 J x1 x2 x3 (zf_I s) (nI p) x6 (zf_n sz) (zf_c st) (zf_c en) (zf_c sp) (zf_c yn) (zf_c yl) (zf_c yt) := by
  have e : zf_c yn (nI p).toNatClampNeg = zf_I (yn p) := zf_at yn p rfl (by omega)
  exact And.intro (pk_in p 4 hp) ⟨by decide, by decide, nm_r (by rw [hx, e]; exact zf_fma _ _ _) (nm_r (nI_1 p) H)⟩
theorem zy_go_13 {post : SY → Prop} {J2 : zx_J7} {a c q : Nat} (ha : a < 3) (hc : c ≤ 2) (hq : q < 4)
    (H : J2 (nI (q + 1)) (zf_n sz) (zf_c st) (zf_c en) (zf_c sp) (zf_c yn) (zf_c (zf_u yl q (zm_gs sp a c yn q 4))) (zf_c yt)) : ∃ n, wY_go_13 post J2 (nI a) (nI c) (nI q) (zf_n sz) (zf_c st) (zf_c en) (zf_c sp) (zf_c yn) (zf_c yl) (zf_c yt) n 0 0 := by
  refine loop_0 (fun n p s => wY_go_13 post J2 (nI a) (nI c) (nI q) (zf_n sz) (zf_c st) (zf_c en) (zf_c sp) (zf_c yn) (zf_c yl) (zf_c yt) n (zf_I s) (nI p)) (fun p s => s = zm_gs sp a c yn q p) 4 0 rfl (fun n s hI => ?_) (fun n p s hp hI ih => ?_)
  · subst hI
    exact pk_le 4 4 (fun _ => ⟨pk_in q 4 hq, nm_r (zf_upi yl q _ rfl (by omega) rfl) (nm_r (nI_1 q) H)⟩) (fun z => by omega)
  · subst hI
    have e0 : zf_c sp (32 * nI a + 4 * nI p + nI q).toNatClampNeg = zf_I (sp (32 * a + 4 * p + q)) := zf_at sp _ (zx_kt0 _ _ _) (by omega)
    have e1 : zf_c sp (32 * nI a + 16 + 4 * nI p + nI q).toNatClampNeg = zf_I (sp (32 * a + 16 + 4 * p + q)) := zf_at sp _ (zx_kt1 _ _ _) (by omega)
    have e2 : (0 : Int32) + zf_c sp (32 * nI a + 4 * nI p + nI q).toNatClampNeg = zf_I (sp (32 * a + 4 * p + q)) := by rw [e0, Int32.zero_add]
    have e3 : (0 : Int32) + zf_c sp (32 * nI a + 16 + 4 * nI p + nI q).toNatClampNeg = zf_I (sp (32 * a + 16 + 4 * p + q)) := by rw [e1, Int32.zero_add]
    have i0 : vp_in (32 * nI a + 4 * nI p + nI q) 96 := pk_in (32 * a + 4 * p + q) 96 (by omega) (zx_kt0 _ _ _)
    have i1 : vp_in (32 * nI a + 16 + 4 * nI p + nI q) 96 := pk_in (32 * a + 16 + 4 * p + q) 96 (by omega) (zx_kt1 _ _ _)
    have hn := ih (zm_gs sp a c yn q (p + 1)) rfl
    refine pk_le 4 p (fun z => by omega) (fun _ => pk_eq c 1 (fun h1 => ?_) (fun h1 => ⟨i0, nm_r e2 ?_⟩))
    · have ec : zm_cf sp a c p q = sp (32 * a + 16 + 4 * p + q) := by
        unfold zm_cf
        rw [if_pos h1, if_neg (by omega), Fin.zero_add]
      refine pk_eq c 0 (fun z => by omega) (fun _ => ⟨i1, nm_r e3 (zy_go_76 hp (zf_rone _) ?_)⟩)
      rw [← ec]
      exact hn
    · refine pk_eq c 0 (fun h0 => zy_go_76 hp (zf_rone _) ?_) (fun h0 => ⟨i1, nm_r (by rw [e1]) (zy_go_76 hp (zf_radd _ _) ?_)⟩)
      · have ec : zm_cf sp a c p q = sp (32 * a + 4 * p + q) := by
          unfold zm_cf
          rw [if_neg h1, if_pos h0, Fin.add_zero]
        rw [← ec]
        exact hn
      · have ec : zm_cf sp a c p q = sp (32 * a + 4 * p + q) + sp (32 * a + 16 + 4 * p + q) := by
          unfold zm_cf
          rw [if_neg h1, if_neg h0]
        rw [← ec]
        exact hn
theorem zy_go_121 {post : SY → Prop} {g : zf_V} (hg : zy_P g) (h4 : zy_P yn) (hl : ∀ j, j < 4 → yl j = g j) (H : post (zf_n sz, zf_c st, zf_c en, zf_c sp, zf_c g, zf_c yl, zf_c yt)) : ∃ n, wY_go_121 post n 0 (zf_n sz) (zf_c st) (zf_c en) (zf_c sp) (zf_c yn) (zf_c yl) (zf_c yt) := by
  refine loop_0 (fun n i s => wY_go_121 post n (nI i) (zf_n sz) (zf_c st) (zf_c en) (zf_c sp) (zf_c s) (zf_c yl) (zf_c yt)) (fun i s => ∀ j, (j < i ∨ 4 ≤ j) → s j = g j) 4 yn (fun j h => by rw [h4 j (by omega), hg j (by omega)]) (fun n s hI => ?_) (fun n i s hi hI ih => ?_)
  · have e : s = g := funext (fun j => hI j (by omega))
    subst e
    exact pk_le 4 4 (fun _ => H) (fun z => by omega)
  · exact pk_le 4 i (fun z => by omega) (fun _ => ⟨pk_in i 4 hi, pk_in i 4 hi, nm_r (zf_upi s i (yl i) rfl (by omega) (zf_at yl i rfl (by omega))) (nm_r (nI_1 i) (ih _ (zx_fill hI (hl i hi))))⟩)
theorem zy_go {post : SY → Prop} {a c : Nat} (ha : a < 3) (hc : c ≤ 2) (h4 : zy_P yn) (H : ∀ yl : Nat → zf_F, post (zf_n sz, zf_c st, zf_c en, zf_c sp, zf_c (zm_go sp a c yn), zf_c yl, zf_c yt)) : wpY_go post (zf_n sz, zf_c st, zf_c en, zf_c sp, zf_c yn, zf_c yl, zf_c yt) (nI a) (nI c) := by
  refine loop_0 (fun n i s => wY_go_2 post (nI a) (nI c) n (nI i) (zf_n sz) (zf_c st) (zf_c en) (zf_c sp) (zf_c yn) (zf_c s) (zf_c yt)) (fun i s => ∀ j, j < i → s j = zm_go sp a c yn j) 4 yl (fun j h => by omega) (fun n s hI => ?_) (fun n i s hi hI ih => ?_)
  · exact pk_le 4 4 (fun _ => zy_go_121 (zm_go_P sp a c yn) h4 hI (H s)) (fun z => by omega)
  · refine pk_le 4 i (fun z => by omega) (fun _ => zy_go_13 ha hc hi (ih _ (fun j hj => ?_)))
    by_cases e : j = i
    · subst e; rw [zf_us]; exact (if_pos hi).symm
    · rw [zf_un e]; exact hI j (by omega)
theorem zy_begin {post : SY → Prop} {a : Nat} (ha : a < 3) (h4 : zy_P yn) (H : post (zf_n sz, zf_c st, zf_c en, zf_c sp, zf_c (zm_yst st a), zf_c yl, zf_c yt)) : wpY_begin post (zf_n sz, zf_c st, zf_c en, zf_c sp, zf_c yn, zf_c yl, zf_c yt) (nI a) := by
  refine loop_0 (fun n i s => wY_begin_2 post (nI a) n (nI i) (zf_n sz) (zf_c st) (zf_c en) (zf_c sp) (zf_c s) (zf_c yl) (zf_c yt)) (fun i s => ∀ j, (j < i ∨ 4 ≤ j) → s j = zm_yst st a j) 4 yn (fun j h => by rw [h4 j (by omega), zm_yst_P st a j (by omega)]) (fun n s hI => ?_) (fun n i s hi hI ih => ?_)
  · have e : s = zm_yst st a := funext (fun j => hI j (by omega))
    subst e
    exact pk_le 4 4 (fun _ => H) (fun z => by omega)
  · exact pk_le 4 i (fun z => by omega) (fun _ => ⟨pk_in (4 * a + i) 12 (by omega) (zx_k4 _ _), pk_in i 4 hi, nm_r (zf_upi s i (st (4 * a + i)) rfl (by omega) (zf_at st _ (zx_k4 _ _) (by omega))) (nm_r (nI_1 i) (ih _ (zx_fill hI (if_pos hi).symm)))⟩)
theorem zy_finish {post : Int32 → Prop} {a : Nat} (ha : a < 3) (H : post (zf_I (zm_fs en a yn 4))) : wpY_finish post (zf_n sz, zf_c st, zf_c en, zf_c sp, zf_c yn, zf_c yl, zf_c yt) (nI a) := by
  refine loop_0 (fun n i s => wY_finish_4 post (nI a) (zf_n sz) (zf_c st) (zf_c en) (zf_c sp) (zf_c yn) (zf_c yl) (zf_c yt) n (zf_I s) (nI i)) (fun i s => s = zm_fs en a yn i) 4 0 rfl (fun n s hI => ?_) (fun n i s hi hI ih => ?_)
  · subst hI
    exact pk_le 4 4 (fun _ => H) (fun z => by omega)
  · subst hI
    have e1 : zf_c yn (nI i).toNatClampNeg = zf_I (yn i) := zf_at yn i rfl (by omega)
    have e2 : zf_c en (4 * nI a + nI i).toNatClampNeg = zf_I (en (4 * a + i)) := zf_at en _ (zx_k4 _ _) (by omega)
    exact pk_le 4 i (fun z => by omega) (fun _ => ⟨pk_in i 4 hi, pk_in (4 * a + i) 12 (by omega) (zx_k4 _ _), by decide, nm_r (e' := zf_I (zm_fs en a yn (i + 1))) (by rw [e1, e2]; exact zf_fma _ _ _) (nm_r (nI_1 i) (ih _ rfl))⟩)
theorem zm_div0 {c k : Nat} : c / 2 ^ k ≤ 0 ↔ c < 2 ^ k := by
  have := Nat.two_pow_pos k
  constructor
  · intro h
    apply Classical.byContradiction
    intro z
    have := Nat.div_pos (Nat.le_of_not_lt z) this
    omega
  · intro h
    rw [Nat.div_eq_of_lt h]
    exact Nat.le_refl _
theorem zy_length {post : Int32 → Prop} {c : Nat} (h1 : 1 ≤ c) (h2 : c < 8192) (H : ∀ n, n ≤ 12 → 2 ^ n ≤ c → c < 2 ^ (n + 1) → post (nI n)) : wpY_length post (zf_n sz, zf_c st, zf_c en, zf_c sp, zf_c yn, zf_c yl, zf_c yt) (nI c) := by
  refine pk_loop (fun n k s => wY_length_4 post (nI c) (zf_n sz) (zf_c st) (zf_c en) (zf_c sp) (zf_c yn) (zf_c yl) (zf_c yt) n (nI s) (nI k)) (fun k s => s < k ∧ 2 ^ s ≤ c ∧ (c < 2 ^ (s + 1) ∨ s + 1 = k)) 13 1 0 (by decide) ⟨by decide, by omega, Or.inr rfl⟩ (fun n s hI => ?_) (fun n k s hk hI ih => ?_)
  · refine pk_le 13 13 (fun _ => H s (by omega) hI.2.1 ?_) (fun z => by omega)
    rcases hI.2.2 with z | z
    · exact z
    · have : s = 12 := by omega
      subst this
      exact h2
  · have hd : c / 2 ^ k ≤ c := Nat.div_le_self _ _
    have e : nI c >>> (nI k &&& 31) = nI (c / 2 ^ k) := pk_shrN (by omega) _ k (s_l k (by omega))
    refine pk_le 13 k (fun z => by omega) (fun _ => pk_le (c / 2 ^ k) 0 (fun z => nm_r (nI_1 k) (ih s ⟨by omega, hI.2.1, Or.inl ?_⟩)) (fun z => nm_r (nI_1 k) (ih k ⟨by omega, ?_, Or.inr rfl⟩)) e rfl (by omega))
    · rcases hI.2.2 with y | y
      · exact y
      · rw [y]; exact zm_div0.mp z
    · apply Classical.byContradiction
      intro y
      have := zm_div0.mpr (Nat.lt_of_not_le y)
      omega
theorem zm_pow_s (c t : Nat) : c / 2 ^ t / 2 = c / 2 ^ (t + 1) := by rw [Nat.div_div_eq_div_mul, Nat.pow_succ]
theorem zm_pow_2 {c t : Nat} (h : 2 ^ (t + 1) ≤ c) : 1 < c / 2 ^ t := by
  have h0 := Nat.two_pow_pos t
  have : 2 ≤ c / 2 ^ t := (Nat.le_div_iff_mul_le h0).mpr (by rw [Nat.pow_succ] at h; omega)
  omega
theorem zf_m1 (x : Int32) : x + (-1) = x - 1 := (Int32.sub_eq_add_neg x 1).symm
theorem zy_worth_13 {post : Int32 → SY → Prop} {a c : Nat} (ha : a < 3) (hc : c < 8192) (H : ∀ yl yn : Nat → zf_F, zy_P yn → post (zf_I (zm_wo st en sp a c)) (zf_n sz, zf_c st, zf_c en, zf_c sp, zf_c yn, zf_c yl, zf_c yt)) :
    ∀ t, t ≤ 12 → 2 ^ t ≤ c → ∀ yl : Nat → zf_F, wY_worth_13 post (nI a) (nI c) (t + 1) (nI t - 1) (zf_n sz) (zf_c st) (zf_c en) (zf_c sp) (zf_c (zm_yw st sp a (c / 2 ^ t))) (zf_c yl) (zf_c yt) := by
  intro t
  induction t with
  | zero =>
    intro _ h1 yl
    refine br_t (by decide) (zy_finish ha ?_)
    have e : c / 2 ^ 0 = c := Nat.div_one c
    rw [e]
    refine H _ _ (zm_vw_ind (P := zy_P) (zm_yst_P st a) (fun l v _ _ => zm_go_P sp a l v) c h1)
  | succ t ih =>
    intro ht h1 yl
    have e1 : nI (t + 1) - 1 = nI t := nI_pred t
    have e2 : (nI c >>> (nI t &&& 31)) &&& 1 = nI (c / 2 ^ t % 2) := zx_bit (by omega) (by omega)
    have hm : c / 2 ^ t % 2 < 2 := Nat.mod_lt _ (by decide)
    have h2 := zm_pow_2 h1
    have hp : 2 ^ t ≤ c := Nat.le_trans (Nat.pow_le_pow_right (by decide) (Nat.le_succ t)) h1
    have h3 : 1 ≤ c / 2 ^ (t + 1) := by
      have := zm_pow_s c t
      omega
    rw [e1]
    refine br_f (nI_pos (by omega)) ?_
    rw [e2]
    refine zy_go ha (by omega) (zm_vw_ind (P := zy_P) (zm_yst_P st a) (fun l v _ _ => zm_go_P sp a l v) _ h3) (fun yl => ?_)
    have e3 : zm_go sp a (c / 2 ^ t % 2) (zm_yw st sp a (c / 2 ^ (t + 1))) = zm_yw st sp a (c / 2 ^ t) := by
      have := zm_vw_h (fun l x => zm_go sp a l x) (zm_yst st a) h2
      rw [zm_pow_s] at this
      exact this.symm
    rw [e3]
    exact nm_r (zf_m1 _) (ih (by omega) hp yl)
theorem zy_worth {post : Int32 → SY → Prop} {a c : Nat} (ha : a < 3) (h1 : 1 ≤ c) (hc : c < 8192) (h4 : zy_P yn) (H : ∀ yl yn : Nat → zf_F, zy_P yn → post (zf_I (zm_wo st en sp a c)) (zf_n sz, zf_c st, zf_c en, zf_c sp, zf_c yn, zf_c yl, zf_c yt)) : wpY_worth post (zf_n sz, zf_c st, zf_c en, zf_c sp, zf_c yn, zf_c yl, zf_c yt) (nI a) (nI c) := by
  unfold wpY_worth
  refine zy_begin ha h4 ?_
  refine zy_length h1 hc (fun n hn hl hu => ?_)
  refine nm_e ⟨n + 1, ?_⟩
  have e : c / 2 ^ n = 1 := by
    have h0 := Nat.two_pow_pos n
    have a1 : 1 ≤ c / 2 ^ n := (Nat.le_div_iff_mul_le h0).mpr (by omega)
    have a2 : c / 2 ^ n < 2 := (Nat.div_lt_iff_lt_mul h0).mpr (by rw [Nat.pow_succ] at hu; omega)
    omega
  have := zy_worth_13 ha hc H n hn hl yl
  rw [e] at this
  have e1 : zm_yw st sp a 1 = zm_yst st a := zm_vw_1 _ _
  rw [e1] at this
  exact this
/-! apart, first, isSum -/
def zm_Ap (f g : Nat → zf_F) (N c : Nat) : Prop := (c = 0 ∧ ∀ d, 1 ≤ d → d < N → f d = g d) ∨ (1 ≤ c ∧ c < N ∧ f c ≠ g c ∧ ∀ d, 1 ≤ d → d < c → f d = g d)
theorem zm_upto {p : Nat → Prop} {i : Nat} (h : ∀ d, 1 ≤ d → d < i → p d) (hi : p i) : ∀ d, 1 ≤ d → d < i + 1 → p d := by
  intro d h1 h2
  by_cases e : d = i
  · subst e; exact hi
  · exact h d h1 (by omega)
theorem zy_apart {post : Int32 → SY → Prop} {a a' : Nat} (ha : a < 3) (ha' : a' < 3) (h4 : zy_P yn) (H : ∀ (c : Nat) (yl yn : Nat → zf_F), zy_P yn → zm_Ap (zm_wo st en sp a) (zm_wo st en sp a') 256 c → post (nI c) (zf_n sz, zf_c st, zf_c en, zf_c sp, zf_c yn, zf_c yl, zf_c yt)) : wpY_apart post (zf_n sz, zf_c st, zf_c en, zf_c sp, zf_c yn, zf_c yl, zf_c yt) (nI a) (nI a') := by
  refine pk_loop (fun n i (s : zf_V × zf_V) => wY_apart_2 post (nI a) (nI a') n (nI i) (zf_n sz) (zf_c st) (zf_c en) (zf_c sp) (zf_c (s.1)) (zf_c (s.2)) (zf_c yt)) (fun i s => 1 ≤ i ∧ zy_P s.1 ∧ ∀ d, 1 ≤ d → d < i → zm_wo st en sp a d = zm_wo st en sp a' d) 256 1 (yn, yl) (by decide) ⟨Nat.le_refl _, h4, fun d h1 h2 => by omega⟩ (fun n s hI => ?_) (fun n i s hi hI ih => ?_)
  · exact pk_le 256 256 (fun _ => H 0 _ _ hI.2.1 (Or.inl ⟨rfl, hI.2.2⟩)) (fun z => by omega)
  · refine pk_le 256 i (fun z => by omega) (fun _ => ?_)
    refine zy_worth ha hI.1 (by omega) hI.2.1 (fun yl1 yn1 hP1 => ?_)
    refine zy_worth ha' hI.1 (by omega) hP1 (fun yl2 yn2 hP2 => ?_)
    by_cases e : zm_wo st en sp a i = zm_wo st en sp a' i
    · exact br_t (zf_I_inj.mpr e) (nm_r (nI_1 i) (ih (yn2, yl2) ⟨by omega, hP2, zm_upto hI.2.2 e⟩))
    · exact br_f (fun z => e (zf_I_inj.mp z)) (H i _ _ hP2 (Or.inr ⟨hI.1, hi, e, hI.2.2⟩))
theorem zy_first_12 {post : Int32 → SY → Prop} {a : Nat} (ha : a < 3) (h4 : zy_P yn) (H : ∀ (c : Nat) (yl yn : Nat → zf_F), zy_P yn → zm_Ap (zm_wo st en sp a) (fun _ => 0) 256 c → post (nI c) (zf_n sz, zf_c st, zf_c en, zf_c sp, zf_c yn, zf_c yl, zf_c yt)) : ∃ n, wY_first_12 post (nI a) n 1 (zf_n sz) (zf_c st) (zf_c en) (zf_c sp) (zf_c yn) (zf_c yl) (zf_c yt) := by
  refine pk_loop (fun n i (s : zf_V × zf_V) => wY_first_12 post (nI a) n (nI i) (zf_n sz) (zf_c st) (zf_c en) (zf_c sp) (zf_c (s.1)) (zf_c (s.2)) (zf_c yt)) (fun i s => 1 ≤ i ∧ zy_P s.1 ∧ ∀ d, 1 ≤ d → d < i → zm_wo st en sp a d = 0) 256 1 (yn, yl) (by decide) ⟨Nat.le_refl _, h4, fun d h1 h2 => by omega⟩ (fun n s hI => ?_) (fun n i s hi hI ih => ?_)
  · exact pk_le 256 256 (fun _ => H 0 _ _ hI.2.1 (Or.inl ⟨rfl, hI.2.2⟩)) (fun z => by omega)
  · refine pk_le 256 i (fun z => by omega) (fun _ => ?_)
    refine zy_worth ha hI.1 (by omega) hI.2.1 (fun yl1 yn1 hP1 => ?_)
    by_cases e : zm_wo st en sp a i = 0
    · exact br_t (zf_Iz.mpr e) (nm_r (nI_1 i) (ih (yn1, yl1) ⟨by omega, hP1, zm_upto hI.2.2 e⟩))
    · exact br_f (fun z => e (zf_Iz.mp z)) (H i _ _ hP1 (Or.inr ⟨hI.1, hi, e, hI.2.2⟩))
theorem zy_isSum_29 {post : Int32 → SY → Prop} {a a' a'' : Nat} (ha : a < 3) (ha' : a' < 3) (ha'' : a'' < 3) (h4 : zy_P yn)
    (H1 : ∀ yl yn : Nat → zf_F, zy_P yn → (∀ d, 1 ≤ d → d < 4096 → zm_wo st en sp a d + zm_wo st en sp a' d = zm_wo st en sp a'' d) → post 1 (zf_n sz, zf_c st, zf_c en, zf_c sp, zf_c yn, zf_c yl, zf_c yt))
    (H0 : ∀ yl yn : Nat → zf_F, zy_P yn → (∃ d, 1 ≤ d ∧ zm_wo st en sp a d + zm_wo st en sp a' d ≠ zm_wo st en sp a'' d) → post 0 (zf_n sz, zf_c st, zf_c en, zf_c sp, zf_c yn, zf_c yl, zf_c yt)) : ∃ n, wY_isSum_29 post (nI a) (nI a') (nI a'') n 1 (zf_n sz) (zf_c st) (zf_c en) (zf_c sp) (zf_c yn) (zf_c yl) (zf_c yt) := by
  refine pk_loop (fun n i (s : zf_V × zf_V) => wY_isSum_29 post (nI a) (nI a') (nI a'') n (nI i) (zf_n sz) (zf_c st) (zf_c en) (zf_c sp) (zf_c (s.1)) (zf_c (s.2)) (zf_c yt)) (fun i s => 1 ≤ i ∧ zy_P s.1 ∧ ∀ d, 1 ≤ d → d < i → zm_wo st en sp a d + zm_wo st en sp a' d = zm_wo st en sp a'' d) 4096 1 (yn, yl) (by decide) ⟨Nat.le_refl _, h4, fun d h1 h2 => by omega⟩ (fun n s hI => ?_) (fun n i s hi hI ih => ?_)
  · exact pk_le 4096 4096 (fun _ => H1 _ _ hI.2.1 hI.2.2) (fun z => by omega)
  · refine pk_le 4096 i (fun z => by omega) (fun _ => ?_)
    refine zy_worth ha hI.1 (by omega) hI.2.1 (fun yl1 yn1 hP1 => ?_)
    refine zy_worth ha' hI.1 (by omega) hP1 (fun yl2 yn2 hP2 => ?_)
    refine zy_worth ha'' hI.1 (by omega) hP2 (fun yl3 yn3 hP3 => ?_)
    refine ⟨by decide, ?_⟩
    rw [zf_radd]
    by_cases e : zm_wo st en sp a i + zm_wo st en sp a' i = zm_wo st en sp a'' i
    · exact br_t (zf_I_inj.mpr e) (nm_r (nI_1 i) (ih (yn3, yl3) ⟨by omega, hP3, zm_upto hI.2.2 e⟩))
    · exact br_f (fun z => e (zf_I_inj.mp z)) (H0 _ _ hP3 ⟨i, hI.1, e⟩)
/-! total -/
def zm_tot (sp : Nat → zf_F) (a : Nat) (x : zf_V) : Nat → zf_V
  | 0 => x
  | k + 1 => zm_go sp a 2 (zm_tot sp a x k)
theorem zm_tot_P {sp : Nat → zf_F} {a : Nat} {x : zf_V} (hx : zy_P x) : ∀ k, zy_P (zm_tot sp a x k)
  | 0 => hx
  | k + 1 => zm_go_P sp a 2 _
theorem zy_total_31 {post : Int32 → SY → Prop} {a N : Nat} (ha : a < 3) (hN : N ≤ 200) (h4 : zy_P yn) (H : ∀ yl yn' : Nat → zf_F, zy_P yn' → post (zf_I (zm_fs en a (zm_tot sp a yn N) 4)) (zf_n sz, zf_c st, zf_c en, zf_c sp, zf_c yn', zf_c yl, zf_c yt)) : ∃ n, wY_total_31 post (nI a) (nI N) n 0 (zf_n sz) (zf_c st) (zf_c en) (zf_c sp) (zf_c yn) (zf_c yl) (zf_c yt) := by
  refine loop_0 (fun n i (s : zf_V × zf_V) => wY_total_31 post (nI a) (nI N) n (nI i) (zf_n sz) (zf_c st) (zf_c en) (zf_c sp) (zf_c (s.1)) (zf_c (s.2)) (zf_c yt)) (fun i s => s.1 = zm_tot sp a yn i) N (yn, yl) rfl (fun n s hI => ?_) (fun n i s hi hI ih => ?_)
  · obtain ⟨s1, s2⟩ := s
    dsimp only at hI
    subst hI
    exact pk_le N N (fun _ => zy_finish ha (H _ _ (zm_tot_P h4 N))) (fun z => by omega)
  · obtain ⟨s1, s2⟩ := s
    dsimp only at hI
    subst hI
    refine pk_le N i (fun z => by omega) (fun _ => ?_)
    refine zy_go (c := 2) ha (by decide) (zm_tot_P h4 i) (fun yl => ?_)
    exact nm_r (nI_1 i) (ih (zm_tot sp a yn (i + 1), yl) rfl)
end
end
section
theorem zf_fma2 (x y s t : zf_F) : (zf_I x + zf_I y * (zf_I s + zf_I t)) - (zf_I x + zf_I y * (zf_I s + zf_I t)) / 997 * 997 = zf_I (x + y * (s + t)) := by
  have h1 := zf_lt y
  have h2 := zf_lt x
  have h3 := zf_lt s
  have h4 := zf_lt t
  have hb : y.val * (s.val + t.val) ≤ 996 * 1992 := Nat.mul_le_mul (by omega) (by omega)
  unfold zf_I
  rw [nI_add s.val, pk_mul, nI_add, zf_rem (by omega), zf_mk_add, zf_mk_mul, zf_mk_add, zf_mk_val, zf_mk_val, zf_mk_val, zf_mk_val]
  rfl
theorem zm_gs_end (sp : Nat → zf_F) (a c : Nat) (x : zf_V) (q p : Nat) (hp : p ≤ 4) (hz : ∀ p', p ≤ p' → p' < 4 → zm_cf sp a c p' q = 0) : zm_gs sp a c x q p = zm_gs sp a c x q 4 := by
  have key : ∀ d, p + d ≤ 4 → zm_gs sp a c x q (p + d) = zm_gs sp a c x q p := by
    intro d
    induction d with
    | zero => intro _; rfl
    | succ d ih =>
      intro h
      show zm_gs sp a c x q (p + d) + x (p + d) * zm_cf sp a c (p + d) q = _
      rw [hz (p + d) (by omega) (by omega), Fin.mul_zero, Fin.add_zero]
      exact ih (by omega)
  have := key (4 - p) (by omega)
  rw [show p + (4 - p) = 4 by omega] at this
  exact this.symm
theorem zm_cf_2 {sz : Nat → Nat} {st en sp : Nat → zf_F} (ok : zm_OK sz st en sp) {a c p q : Nat} (ha : a < 3) (hp : p < 4) (hq : q < 4) (h : sz a ≤ p ∨ sz a ≤ q) : zm_cf sp a c p q = 0 := by
  have h0 := ok.2.2 a 0 p q ha (by decide) hp hq h
  have h1 := ok.2.2 a 1 p q ha (by decide) hp hq h
  rw [show 32 * a + 16 * 0 + 4 * p + q = 32 * a + 4 * p + q by omega] at h0
  rw [show 32 * a + 16 * 1 + 4 * p + q = 32 * a + 16 + 4 * p + q by omega] at h1
  unfold zm_cf
  rw [h0, h1]
  by_cases e1 : c = 1
  · by_cases e0 : c = 0
    · omega
    · rw [if_pos e1, if_neg e0]; rfl
  · by_cases e0 : c = 0
    · rw [if_neg e1, if_pos e0]; rfl
    · rw [if_neg e1, if_neg e0]; rfl
section
variable {m w b : Int32} {sz : Nat → Nat} {st en sp : Nat → zf_F} {me : Nat → Nat} {sg ro : Nat → zf_F} {co : Nat → Nat} {re : Nat → zf_F} {pi : Nat → Nat} {nw nx ke : Nat → zf_F}
/-! weight -/
theorem zx_weight_57 {post : Int32 → SX → Prop} {M c : Nat} (hM : M ≤ 3) (hme : ∀ i, i < M → me i < 3) (ok : zm_OK sz st en sp) (hc : c < 8192)
    (H : ∀ nw nx : Nat → zf_F, zx_P nw → zx_P nx → post (zf_I (zm_vl en me M (zm_rw st sp me sg M c))) (nI M, w, b, zf_n sz, zf_c st, zf_c en, zf_c sp, zf_n me, zf_c sg, zf_c ro, zf_n co, zf_c re, zf_n pi, zf_c nw, zf_c nx, zf_c ke)) :
    ∀ t, t ≤ 12 → 2 ^ t ≤ c → ∀ nx : Nat → zf_F, zx_P nx → wX_weight_57 post (nI c) (t + 1) (nI t - 1) (nI M) w b (zf_n sz) (zf_c st) (zf_c en) (zf_c sp) (zf_n me) (zf_c sg) (zf_c ro) (zf_n co) (zf_c re) (zf_n pi) (zf_c (zm_rw st sp me sg M (c / 2 ^ t))) (zf_c nx) (zf_c ke) := by
  intro t
  induction t with
  | zero =>
    intro _ h1 nx hx12
    have e : c / 2 ^ 0 = c := Nat.div_one c
    refine br_t (by decide) (zx_endValue hM hme ?_)
    rw [e]
    exact H _ _ (fun j hj => zm_rw_supp st sp me sg M c h1 j (by omega)) hx12
  | succ t ih =>
    intro ht h1 nx hx12
    have e1 : nI (t + 1) - 1 = nI t := nI_pred t
    have e2 : (nI c >>> (nI t &&& 31)) &&& 1 = nI (c / 2 ^ t % 2) := zx_bit (by omega) (by omega)
    have hm : c / 2 ^ t % 2 < 2 := Nat.mod_lt _ (by decide)
    have h2 := zm_pow_2 h1
    have hp : 2 ^ t ≤ c := Nat.le_trans (Nat.pow_le_pow_right (by decide) (Nat.le_succ t)) h1
    have h3 : 1 ≤ c / 2 ^ (t + 1) := by
      have := zm_pow_s c t
      omega
    rw [e1]
    refine br_f (nI_pos (by omega)) ?_
    rw [e2]
    refine zx_advance hM hme ok hm (fun j hj => zm_rw_supp st sp me sg M _ h3 j (by omega)) hx12 ?_
    have e3 : zm_pa sp me (c / 2 ^ t % 2) (zm_rw st sp me sg M (c / 2 ^ (t + 1))) (4 * M) = zm_rw st sp me sg M (c / 2 ^ t) := by
      have := zm_vw_h (zm_T sp me M) (zm_srow st me sg (4 * M)) h2
      rw [zm_pow_s] at this
      exact this.symm
    rw [e3]
    exact nm_r (zf_m1 _) (ih (by omega) hp _ (fun j hj => zm_rw_supp st sp me sg M _ (by omega) j (by omega)))
theorem zx_weight_36 {post : Int32 → SX → Prop} {c : Nat} (h1 : 1 ≤ c) (hc : c < 8192) (H : ∀ t, t ≤ 12 → 2 ^ t ≤ c → c < 2 ^ (t + 1) → ∃ n, wX_weight_57 post (nI c) n (nI t - 1) m w b (zf_n sz) (zf_c st) (zf_c en) (zf_c sp) (zf_n me) (zf_c sg) (zf_c ro) (zf_n co) (zf_c re) (zf_n pi) (zf_c nw) (zf_c nx) (zf_c ke)) :
    ∀ t, t ≤ 9 → c < 2 ^ (t + 1) → wX_weight_36 post (nI c) m w b (zf_n sz) (zf_c st) (zf_c en) (zf_c sp) (zf_n me) (zf_c sg) (zf_c ro) (zf_n co) (zf_c re) (zf_n pi) (zf_c nw) (zf_c nx) (zf_c ke) (t + 1) (nI t) := by
  intro t
  induction t with
  | zero =>
    intro _ h2
    exact pk_le 0 0 (fun _ => nm_e (H 0 (by decide) h1 h2)) (fun z => by omega)
  | succ t ih =>
    intro ht h2
    have hd : c / 2 ^ (t + 1) ≤ c := Nat.div_le_self _ _
    have e : nI c >>> (nI (t + 1) &&& 31) = nI (c / 2 ^ (t + 1)) := pk_shrN (by omega) _ (t + 1) (s_l (t + 1) (by omega))
    refine pk_le (t + 1) 0 (fun z => by omega) (fun _ => pk_eq (c / 2 ^ (t + 1)) 0 (fun z => nm_r (pk_m1 t) (ih (by omega) (zm_div0.mp (by omega)))) (fun z => nm_e (H (t + 1) (by omega) ?_ h2)) e rfl (by omega))
    apply Classical.byContradiction
    intro y
    exact z (Nat.le_zero.mp (zm_div0.mpr (Nat.lt_of_not_le y)))
theorem zx_weight {post : Int32 → SX → Prop} {a c : Nat} (ha : a < 3) (ok : zm_OK sz st en sp) (h1 : 1 ≤ c) (hc : c < 1024) (h12 : zx_P nw) (hx12 : zx_P nx)
    (H : ∀ (me : Nat → Nat) (sg nw nx : Nat → zf_F), me 0 = a → sg 0 = 1 → zx_P nw → zx_P nx → post (zf_I (zm_vl en me 1 (zm_rw st sp me sg 1 c))) (nI 1, w, b, zf_n sz, zf_c st, zf_c en, zf_c sp, zf_n me, zf_c sg, zf_c ro, zf_n co, zf_c re, zf_n pi, zf_c nw, zf_c nx, zf_c ke)) : wpX_weight post (m, w, b, zf_n sz, zf_c st, zf_c en, zf_c sp, zf_n me, zf_c sg, zf_c ro, zf_n co, zf_c re, zf_n pi, zf_c nw, zf_c nx, zf_c ke) (nI a) (nI c) := by
  unfold wpX_weight
  refine zx_good ha (br_f (by decide) (pk_lt c 1 (fun z => by omega) (fun _ => pk_le c 1023 (fun _ => ?_) (fun z => by omega))))
  refine zx_alone ?_
  have hme : ∀ i, i < 1 → zf_u me 0 a i < 3 := fun i hi => by
    have : i = 0 := by omega
    subst this
    rw [zf_us]; exact ha
  refine zx_startRow (M := 1) (by decide) hme ok h12 ?_
  refine ⟨10, zx_weight_36 h1 (by omega) (fun t ht hl hu => ?_) 9 (by decide) hc⟩
  have e : c / 2 ^ t = 1 := by
    have h0 := Nat.two_pow_pos t
    have a1 : 1 ≤ c / 2 ^ t := (Nat.le_div_iff_mul_le h0).mpr (by omega)
    have a2 : c / 2 ^ t < 2 := (Nat.div_lt_iff_lt_mul h0).mpr (by rw [Nat.pow_succ] at hu; omega)
    omega
  have := zx_weight_57 (sg := zf_u sg 0 1) (w := w) (b := b) (ro := ro) (co := co) (re := re) (pi := pi) (ke := ke) (M := 1) (by decide) hme ok (by omega) (fun nw nx => H _ _ nw nx zf_us zf_us) t ht hl nx hx12
  rw [e] at this
  have e1 : zm_rw st sp (zf_u me 0 a) (zf_u sg 0 1) 1 1 = zm_srow st (zf_u me 0 a) (zf_u sg 0 1) (4 * 1) := zm_vw_1 _ _
  rw [e1] at this
  exact ⟨_, this⟩
/-! total -/
theorem zx_total_59 {post : Int32 → SX → Prop} {J34 J42 : zx_J1} {a q : Nat} {x2 x3 : Int32} (ha : a < 3) (ok : zm_OK sz st en sp) (hq : q < 4) (h0 : nx q = 0)
    (H : J42 (nI (q + 1)) (zf_n sz) (zf_c st) (zf_c en) (zf_c sp) (zf_n me) (zf_c sg) (zf_c ro) (zf_n co) (zf_c re) (zf_n pi) (zf_c nw) (zf_c (zf_u nx q (zm_gs sp a 2 nw q 4))) (zf_c ke)) : ∃ n, wX_total_59 post J34 J42 (nI a) x2 x3 (nI q) m w b n 0 (zf_n sz) (zf_c st) (zf_c en) (zf_c sp) (zf_n me) (zf_c sg) (zf_c ro) (zf_n co) (zf_c re) (zf_n pi) (zf_c nw) (zf_c nx) (zf_c ke) := by
  have hs := (ok.1 a ha).2
  have e2 : zf_n sz (nI a).toNatClampNeg = nI (sz a) := zf_atn sz a rfl (by omega)
  have e00 : nx = zf_u nx q (zm_gs sp a 2 nw q 0) := by
    funext j
    by_cases e : j = q
    · subst e; rw [zf_us, h0]; rfl
    · rw [zf_un e]
  refine loop_0 (fun n p s => wX_total_59 post J34 J42 (nI a) x2 x3 (nI q) m w b n (nI p) (zf_n sz) (zf_c st) (zf_c en) (zf_c sp) (zf_n me) (zf_c sg) (zf_c ro) (zf_n co) (zf_c re) (zf_n pi) (zf_c nw) (zf_c s) (zf_c ke)) (fun p s => s = zf_u nx q (zm_gs sp a 2 nw q p)) (sz a) nx e00 (fun n s hI => ?_) (fun n p s hp hI ih => ?_)
  · subst hI
    refine And.intro (pk_in a 3 ha) (pk_le (sz a) (sz a) (fun _ => nm_r (nI_1 q) ?_) (fun z => by omega) e2)
    rw [zm_gs_end sp a 2 nw q (sz a) hs (fun p' h1 h2 => zm_cf_2 ok ha h2 hq (Or.inl h1))]
    exact H
  · subst hI
    have k0 : zf_c sp (32 * nI a + 4 * nI p + nI q).toNatClampNeg = zf_I (sp (32 * a + 4 * p + q)) := zf_at sp _ (zx_kt0 _ _ _) (by omega)
    have k1 : zf_c sp (32 * nI a + 16 + 4 * nI p + nI q).toNatClampNeg = zf_I (sp (32 * a + 16 + 4 * p + q)) := zf_at sp _ (zx_kt1 _ _ _) (by omega)
    have k2 : zf_c nw (nI p).toNatClampNeg = zf_I (nw p) := zf_at nw p rfl (by omega)
    have k3 : zf_c (zf_u nx q (zm_gs sp a 2 nw q p)) (nI q).toNatClampNeg = zf_I (zm_gs sp a 2 nw q p) := by
      rw [zf_at _ q rfl (by omega), zf_us]
    refine And.intro (pk_in a 3 ha) (pk_le (sz a) p (fun z => by omega) (fun _ => ⟨pk_in a 3 ha, pk_le (sz a) q (fun z => nm_r (nI_1 q) ?_) (fun z => ⟨pk_in (32 * a + 4 * p + q) 96 (by omega) (zx_kt0 _ _ _), pk_in (32 * a + 16 + 4 * p + q) 96 (by omega) (zx_kt1 _ _ _), nm_r (by rw [k0, k1]) ⟨pk_in q 12 (by omega), pk_in p 12 (by omega), by decide, pk_in q 12 (by omega),
      nm_r (zf_upi _ q (zm_gs sp a 2 nw q (p + 1)) rfl (by omega) (by rw [k2, k3]; exact zf_fma2 _ _ _ _)) (nm_r (nI_1 p) (ih _ ?_))⟩⟩) e2⟩) e2)
    · rw [zm_gs_end sp a 2 nw q p (by omega) (fun p' h1 h2 => zm_cf_2 ok ha h2 hq (Or.inr z))]
      exact H
    · funext j
      by_cases e : j = q
      · subst e; rw [zf_us, zf_us]
      · rw [zf_un e, zf_un e, zf_un e]
theorem zx_total_165 {post : Int32 → SX → Prop} {J34 : zx_J1} {x1 x2 : Int32} {k : Nat} {g : zf_V} (hg : zy_P g) (h4 : zy_P nw) (hl : ∀ j, j < 4 → nx j = g j) (H : J34 (nI (k + 1)) (zf_n sz) (zf_c st) (zf_c en) (zf_c sp) (zf_n me) (zf_c sg) (zf_c ro) (zf_n co) (zf_c re) (zf_n pi) (zf_c g) (zf_c nx) (zf_c ke)) : ∃ n, wX_total_165 post J34 x1 x2 (nI k) m w b n 0 (zf_n sz) (zf_c st) (zf_c en) (zf_c sp) (zf_n me) (zf_c sg) (zf_c ro) (zf_n co) (zf_c re) (zf_n pi) (zf_c nw) (zf_c nx) (zf_c ke) := by
  refine loop_0 (fun n i s => wX_total_165 post J34 x1 x2 (nI k) m w b n (nI i) (zf_n sz) (zf_c st) (zf_c en) (zf_c sp) (zf_n me) (zf_c sg) (zf_c ro) (zf_n co) (zf_c re) (zf_n pi) (zf_c s) (zf_c nx) (zf_c ke)) (fun i s => ∀ j, (j < i ∨ 4 ≤ j) → s j = g j) 4 nw (fun j h => by rw [h4 j (by omega), hg j (by omega)]) (fun n s hI => ?_) (fun n i s hi hI ih => ?_)
  · have e : s = g := funext (fun j => hI j (by omega))
    subst e
    exact pk_le 4 4 (fun _ => nm_r (nI_1 k) H) (fun z => by omega)
  · exact pk_le 4 i (fun z => by omega) (fun _ => ⟨pk_in i 12 (by omega), pk_in i 12 (by omega), nm_r (zf_upi s i (nx i) rfl (by omega) (zf_at nx i rfl (by omega))) (nm_r (nI_1 i) (ih _ (zx_fill hI (hl i hi))))⟩)
theorem zx_total_42 {post : Int32 → SX → Prop} {J34 : zx_J1} {a k : Nat} {x2 : Int32} (ha : a < 3) (ok : zm_OK sz st en sp) (h4 : zy_P nw) (hx12 : zx_P nx)
    (H : ∀ nx : Nat → zf_F, zx_P nx → J34 (nI (k + 1)) (zf_n sz) (zf_c st) (zf_c en) (zf_c sp) (zf_n me) (zf_c sg) (zf_c ro) (zf_n co) (zf_c re) (zf_n pi) (zf_c (zm_go sp a 2 nw)) (zf_c nx) (zf_c ke)) : ∃ n, wX_total_42 post J34 (nI a) x2 (nI k) m w b n 0 (zf_n sz) (zf_c st) (zf_c en) (zf_c sp) (zf_n me) (zf_c sg) (zf_c ro) (zf_n co) (zf_c re) (zf_n pi) (zf_c nw) (zf_c nx) (zf_c ke) := by
  refine loop_0 (fun n q s => wX_total_42 post J34 (nI a) x2 (nI k) m w b n (nI q) (zf_n sz) (zf_c st) (zf_c en) (zf_c sp) (zf_n me) (zf_c sg) (zf_c ro) (zf_n co) (zf_c re) (zf_n pi) (zf_c nw) (zf_c s) (zf_c ke)) (fun q s => zx_P s ∧ ∀ j, j < q → s j = zm_go sp a 2 nw j) 4 nx ⟨hx12, fun j h => by omega⟩ (fun n s hI => ?_) (fun n q s hq hI ih => ?_)
  · exact pk_le 4 4 (fun _ => zx_total_165 (zm_go_P sp a 2 nw) h4 hI.2 (H s hI.1)) (fun z => by omega)
  · refine pk_le 4 q (fun z => by omega) (fun _ => ⟨pk_in q 12 (by omega), nm_r (zf_upi s q 0 rfl (by omega) rfl) ?_⟩)
    refine zx_total_59 ha ok hq zf_us (ih _ ⟨fun j hj => ?_, fun j hj => ?_⟩)
    · rw [zf_un (by omega), zf_un (by omega)]
      exact hI.1 j hj
    · by_cases e : j = q
      · subst e; rw [zf_us]; exact (if_pos hq).symm
      · rw [zf_un e, zf_un e]; exact hI.2 j (by omega)
theorem zx_total_34 {post : Int32 → SX → Prop} {a N : Nat} (ha : a < 3) (hN : N ≤ 200) (ok : zm_OK sz st en sp) (hme : me 0 = a) (h4 : zy_P nw) (hx12 : zx_P nx)
    (H : ∀ nw' nx : Nat → zf_F, zx_P nw' → zx_P nx → post (zf_I (zm_ev en me (zm_tot sp a nw N) 4)) (nI 1, w, b, zf_n sz, zf_c st, zf_c en, zf_c sp, zf_n me, zf_c sg, zf_c ro, zf_n co, zf_c re, zf_n pi, zf_c nw', zf_c nx, zf_c ke)) : ∃ n, wX_total_34 post (nI a) (nI N) (nI 1) w b n 0 (zf_n sz) (zf_c st) (zf_c en) (zf_c sp) (zf_n me) (zf_c sg) (zf_c ro) (zf_n co) (zf_c re) (zf_n pi) (zf_c nw) (zf_c nx) (zf_c ke) := by
  refine loop_0 (fun n k (s : zf_V × zf_V) => wX_total_34 post (nI a) (nI N) (nI 1) w b n (nI k) (zf_n sz) (zf_c st) (zf_c en) (zf_c sp) (zf_n me) (zf_c sg) (zf_c ro) (zf_n co) (zf_c re) (zf_n pi) (zf_c (s.1)) (zf_c (s.2)) (zf_c ke)) (fun k s => s.1 = zm_tot sp a nw k ∧ zx_P s.2) N (nw, nx) ⟨rfl, hx12⟩ (fun n s hI => ?_) (fun n k s hk hI ih => ?_)
  · obtain ⟨s1, s2⟩ := s
    obtain ⟨hI, hP⟩ := hI
    dsimp only at hI hP
    subst hI
    have hm : ∀ i, i < 1 → me i < 3 := fun i hi => by
      have : i = 0 := by omega
      subst this
      omega
    exact pk_le N N (fun _ => zx_endValue (M := 1) (by decide) hm (H _ _ (fun j hj => zm_tot_P h4 N j (by omega)) hP)) (fun z => by omega)
  · obtain ⟨s1, s2⟩ := s
    obtain ⟨hI, hP⟩ := hI
    dsimp only at hI hP
    subst hI
    refine pk_le N k (fun z => by omega) (fun _ => ?_)
    exact zx_total_42 ha ok (zm_tot_P h4 k) hP (fun nx hx => ih (zm_tot sp a nw (k + 1), nx) ⟨rfl, hx⟩)
theorem zm_srow_1 (st : Nat → zf_F) {me : Nat → Nat} {sg : Nat → zf_F} {a : Nat} (hm : me 0 = a) (hs : sg 0 = 1) : zm_srow st me sg 4 = zm_yst st a := by
  funext j
  unfold zm_srow zm_yst
  by_cases h : j < 4
  · rw [if_pos h, if_pos h, show j / 4 = 0 by omega, show j % 4 = j by omega, hm, hs, Fin.mul_one]
  · rw [if_neg h, if_neg h]
theorem zm_ev_1 (en : Nat → zf_F) {me : Nat → Nat} {a : Nat} (hm : me 0 = a) (x : zf_V) : zm_ev en me x 4 = zm_fs en a x 4 := by
  have key : ∀ k, k ≤ 4 → zm_ev en me x k = zm_fs en a x k := by
    intro k
    induction k with
    | zero => intro _; rfl
    | succ k ih =>
      intro h
      show zm_ev en me x k + x k * en (4 * me (k / 4) + k % 4) = zm_fs en a x k + x k * en (4 * a + k)
      rw [ih (by omega), show k / 4 = 0 by omega, show k % 4 = k by omega, hm]
  exact key 4 (Nat.le_refl _)
theorem zx_total {post : Int32 → SX → Prop} {a N : Nat} (ha : a < 3) (hN : N ≤ 200) (ok : zm_OK sz st en sp) (h12 : zx_P nw) (hx12 : zx_P nx)
    (H : ∀ (me : Nat → Nat) (sg nw nx : Nat → zf_F), zx_P nw → zx_P nx → post (zf_I (zm_fs en a (zm_tot sp a (zm_yst st a) N) 4)) (nI 1, w, b, zf_n sz, zf_c st, zf_c en, zf_c sp, zf_n me, zf_c sg, zf_c ro, zf_n co, zf_c re, zf_n pi, zf_c nw, zf_c nx, zf_c ke)) : wpX_total post (m, w, b, zf_n sz, zf_c st, zf_c en, zf_c sp, zf_n me, zf_c sg, zf_c ro, zf_n co, zf_c re, zf_n pi, zf_c nw, zf_c nx, zf_c ke) (nI a) (nI N) := by
  unfold wpX_total
  refine zx_good ha (br_f (by decide) (br_f (nI_pos (by omega)) (pk_le N 200 (fun _ => ?_) (fun z => by omega))))
  refine zx_alone ?_
  have hme : ∀ i, i < 1 → zf_u me 0 a i < 3 := fun i hi => by
    have : i = 0 := by omega
    subst this
    rw [zf_us]; exact ha
  refine zx_startRow (M := 1) (by decide) hme ok h12 ?_
  have e1 : zm_srow st (zf_u me 0 a) (zf_u sg 0 1) (4 * 1) = zm_yst st a := zm_srow_1 st zf_us zf_us
  rw [e1]
  refine zx_total_34 ha hN ok zf_us (zm_yst_P st a) hx12 (fun nw' nx h1 h2 => ?_)
  have e2 : zm_ev en (zf_u me 0 a) (zm_tot sp a (zm_yst st a) N) 4 = zm_fs en a (zm_tot sp a (zm_yst st a) N) 4 := zm_ev_1 en zf_us _
  rw [e2]
  exact H _ _ nw' nx h1 h2
end
end
section
/-! the queue that gathers a basis: its law -/
def zm_GI (vw : Nat → zf_V) (B : Nat) (ro : Nat → zf_F) (cd : Nat → Nat) (k l : Nat) : Prop :=
  (∀ i, i < B → zm_row ro i = vw (cd i) ∧ 1 ≤ cd i ∧ cd i < 2 ^ (i + 1)) ∧ zl_Sp (zm_row ro) B (vw 1) ∧
  (∀ i l', i < B → l' < 2 → (i < k ∨ (i = k ∧ l' < l)) → zl_Sp (zm_row ro) B (vw (2 * cd i + l')))
theorem zm_GI_old {vw : Nat → zf_V} {B : Nat} {ro : Nat → zf_F} {cd : Nat → Nat} {k l : Nat} (h : zm_GI vw B ro cd k l) (hx : zl_Sp (zm_row ro) B (vw (2 * cd k + l))) : zm_GI vw B ro cd k (l + 1) := by
  refine ⟨h.1, h.2.1, fun i l' hi hl' hp => ?_⟩
  by_cases e : i = k ∧ l' = l
  · obtain ⟨rfl, rfl⟩ := e
    exact hx
  · exact h.2.2 i l' hi hl' (by omega)
theorem zm_GI_new {vw : Nat → zf_V} {B : Nat} {ro ro' : Nat → zf_F} {cd : Nat → Nat} {k l : Nat} (hk : k < B) (hl : l < 2) (h : zm_GI vw B ro cd k l)
    (h3 : ∀ c, c < B → zm_row ro' c = zm_row ro c) (h4 : zm_row ro' B = vw (2 * cd k + l)) : zm_GI vw (B + 1) ro' (zf_u cd B (2 * cd k + l)) k (l + 1) := by
  have eo : ∀ i, i < B → zf_u cd B (2 * cd k + l) i = cd i := fun i hi => zf_un (by omega)
  have en : zf_u cd B (2 * cd k + l) B = 2 * cd k + l := zf_us
  have hg : ∀ v, zl_Sp (zm_row ro) B v → zl_Sp (zm_row ro') (B + 1) v := fun v hv => zl_mono (Nat.le_succ B) (zl_congr (fun i hi => (h3 i hi).symm) hv)
  refine ⟨fun i hi => ?_, hg _ h.2.1, fun i l' hi hl' hp => ?_⟩
  · by_cases e : i = B
    · subst e
      rw [en]
      have hb := (h.1 k hk).2.2
      have hc := (h.1 k hk).2.1
      have hpw : 2 ^ (k + 1) ≤ 2 ^ i := Nat.pow_le_pow_right (by decide) (by omega)
      have hp2 : 2 ^ (i + 1) = 2 * 2 ^ i := by rw [Nat.pow_succ]; omega
      exact ⟨h4, by omega, by omega⟩
    · rw [eo i (by omega), h3 i (by omega)]
      exact h.1 i (by omega)
  · have hiB : i < B := by omega
    rw [eo i hiB]
    by_cases e : i = k ∧ l' = l
    · obtain ⟨rfl, rfl⟩ := e
      rw [← h4]
      exact zl_mem (by omega)
    · exact hg _ (h.2.2 i l' hiB hl' (by omega))
theorem zm_GI_next {vw : Nat → zf_V} {B : Nat} {ro : Nat → zf_F} {cd : Nat → Nat} {k : Nat} (h : zm_GI vw B ro cd k 2) : zm_GI vw B ro cd (k + 1) 0 :=
  ⟨h.1, h.2.1, fun i l' hi hl' hp => h.2.2 i l' hi hl' (by omega)⟩
theorem zm_GI_0 {vw : Nat → zf_V} {ro : Nat → zf_F} {cd : Nat → Nat} (hx : zl_Sp (zm_row ro) 0 (vw 1)) : zm_GI vw 0 ro cd 0 0 :=
  ⟨fun i hi => absurd hi (Nat.not_lt_zero i), hx, fun i l' hi => absurd hi (Nat.not_lt_zero i)⟩
theorem zm_GI_1 {vw : Nat → zf_V} {ro : Nat → zf_F} (h4 : zm_row ro 0 = vw 1) : zm_GI vw 1 ro (fun _ => 1) 0 0 := by
  refine ⟨fun i hi => ?_, ?_, fun i l' hi hl hp => by omega⟩
  · have : i = 0 := by omega
    subst this
    exact ⟨h4, by decide, by decide⟩
  · rw [← h4]; exact zl_mem (by decide)
/-- what a gathering leaves: rows of words of few letters, and all rows are combinations of them -/
def zm_GR (vw : Nat → zf_V) (B : Nat) (ro : Nat → zf_F) : Prop := ∃ cd : Nat → Nat, (∀ i, i < B → zm_row ro i = vw (cd i) ∧ 1 ≤ cd i ∧ cd i < 2 ^ (i + 1)) ∧ ∀ c, 1 ≤ c → zl_Sp (zm_row ro) B (vw c)
theorem zm_GI_all {T : Nat → zf_V → zf_V} {v0 : zf_V} (hT : ∀ l, zl_Lin (T l)) {B : Nat} {ro : Nat → zf_F} {cd : Nat → Nat} {k l : Nat} (hk : B ≤ k) (h : zm_GI (zm_vw T v0) B ro cd k l) : zm_GR (zm_vw T v0) B ro := by
  refine ⟨cd, h.1, fun c => ?_⟩
  induction c using Nat.strongRecOn with
  | ind c ih =>
    intro hc
    by_cases e : c = 1
    · subst e; exact h.2.1
    · rw [zm_vw_h _ _ (by omega)]
      refine zl_map (hT _) (fun i hi => ?_) (ih (c / 2) (by omega) (by omega))
      have hl : c % 2 < 2 := Nat.mod_lt _ (by decide)
      rw [(h.1 i hi).1, ← zm_vw_s T v0 (h.1 i hi).2.1 hl]
      exact h.2.2 i (c % 2) hi hl (Or.inl (by omega))
/-! stepBack, pure -/
def zm_bs (sp : Nat → zf_F) (a l : Nat) (x : zf_V) (p : Nat) : Nat → zf_F
  | 0 => 0
  | q + 1 => zm_bs sp a l x p q + sp (32 * a + 16 * l + 4 * p + q) * x q
def zm_bk (sp : Nat → zf_F) (a l : Nat) (x : zf_V) : zf_V := fun p => if p < 4 then zm_bs sp a l x p 4 else 0
theorem zm_bs_end (sp : Nat → zf_F) (a l : Nat) (x : zf_V) (p q : Nat) (hq : q ≤ 4) (hz : ∀ q', q ≤ q' → q' < 4 → sp (32 * a + 16 * l + 4 * p + q') = 0) : zm_bs sp a l x p q = zm_bs sp a l x p 4 := by
  have key : ∀ d, q + d ≤ 4 → zm_bs sp a l x p (q + d) = zm_bs sp a l x p q := by
    intro d
    induction d with
    | zero => intro _; rfl
    | succ d ih =>
      intro h
      show zm_bs sp a l x p (q + d) + sp (32 * a + 16 * l + 4 * p + (q + d)) * x (q + d) = _
      rw [hz (q + d) (by omega) (by omega), Fin.zero_mul, Fin.add_zero]
      exact ih (by omega)
  have := key (4 - q) (by omega)
  rw [show q + (4 - q) = 4 by omega] at this
  exact this.symm
theorem zm_bk_P (sp : Nat → zf_F) (a l : Nat) (x : zf_V) : zy_P (zm_bk sp a l x) := fun j hj => if_neg (by omega)
theorem zm_bs_Fun (sp : Nat → zf_F) (a l p q : Nat) : zl_Fun (fun x => zm_bs sp a l x p q) := by
  refine ⟨fun u v => ?_, fun c u => ?_⟩
  · induction q with
    | zero => exact (Fin.add_zero _).symm
    | succ q ih => dsimp only at ih; simp only [zm_bs, ih]; grind
  · induction q with
    | zero => exact (Fin.mul_zero _).symm
    | succ q ih => dsimp only at ih; simp only [zm_bs, ih]; grind
theorem zm_bk_Lin (sp : Nat → zf_F) (a l : Nat) : zl_Lin (zm_bk sp a l) := by
  refine ⟨fun u v => ?_, fun c u => ?_⟩
  · funext p
    unfold zm_bk
    by_cases h : p < 4
    · simp only [if_pos h]
      exact (zm_bs_Fun sp a l p 4).1 u v
    · simp only [if_neg h]; rfl
  · funext p
    unfold zm_bk
    by_cases h : p < 4
    · simp only [if_pos h]
      exact (zm_bs_Fun sp a l p 4).2 c u
    · simp only [if_neg h]; exact (Fin.mul_zero _).symm
section
variable {m w b : Int32} {sz : Nat → Nat} {st en sp : Nat → zf_F} {me : Nat → Nat} {sg : Nat → zf_F} {ke : Nat → zf_F}
/-! gather -/
theorem zx_gather_37 {post : SX → Prop} {J : zx_J4} {M k : Nat} (hM : M ≤ 3) (hme : ∀ i, i < M → me i < 3) (ok : zm_OK sz st en sp)
    (HJ : ∀ B ro co re pi nw nx cd, zx_P nw → zx_P nx → zm_K (4 * M) B re pi ro → zm_GI (zm_rw st sp me sg M) B ro cd (k + 1) 0 → k + 1 ≤ B → J (nI (k + 1)) (nI M) (nI B) (nI B) (zf_n sz) (zf_c st) (zf_c en) (zf_c sp) (zf_n me) (zf_c sg) (zf_c ro) (zf_n co) (zf_c re) (zf_n pi) (zf_c nw) (zf_c nx) (zf_c ke)) :
    ∀ d l, l + d = 2 → ∀ B ro co re pi nw nx cd, k < B → zx_P nw → zx_P nx → zm_K (4 * M) B re pi ro → zm_GI (zm_rw st sp me sg M) B ro cd k l → wX_gather_37 post J (nI k) (d + 1) (nI l) (nI M) (nI B) (nI B) (zf_n sz) (zf_c st) (zf_c en) (zf_c sp) (zf_n me) (zf_c sg) (zf_c ro) (zf_n co) (zf_c re) (zf_n pi) (zf_c nw) (zf_c nx) (zf_c ke) := by
  intro d
  induction d with
  | zero =>
    intro l hl B ro co re pi nw nx cd hk h12 hx12 K I
    have : l = 2 := by omega
    subst this
    exact pk_le 2 2 (fun _ => nm_r (nI_1 k) (HJ B ro co re pi nw nx cd h12 hx12 K (zm_GI_next I) hk)) (fun z => by omega)
  | succ d ih =>
    intro l hl B ro co re pi nw nx cd hk h12 hx12 K I
    have hB := zm_Q_dim K.1
    have hl2 : l < 2 := by omega
    have er : zm_row ro k = zm_rw st sp me sg M (cd k) := (I.1 k hk).1
    have ev : zm_pa sp me l (zm_row ro k) (4 * M) = zm_rw st sp me sg M (2 * cd k + l) := by
      rw [er]
      exact (zm_vw_s (zm_T sp me M) _ (I.1 k hk).2.1 hl2).symm
    have hsup := zm_rw_supp st sp me sg M (2 * cd k + l) (by have := (I.1 k hk).2.1; omega)
    have hsup12 : zx_P (zm_rw st sp me sg M (2 * cd k + l)) := fun j hj => hsup j (by omega)
    have ec : 2 * zf_n co (nI k).toNatClampNeg + nI l = nI (2 * co k + l) := by
      rw [zf_atn co k rfl (by omega), ← nI_add, ← pk_mul]; rfl
    refine pk_le 2 l (fun z => by omega) (fun _ => ?_)
    refine zx_takeRow (by omega) h12 ?_
    refine zx_advance hM hme ok hl2 (fun j hj => if_neg (by omega)) hx12 ?_
    rw [ev]
    refine ⟨pk_in k 14 (by omega), ?_⟩
    rw [ec]
    refine zx_keepRow (by omega) K hsup hsup12 (fun y hy hsp => ?_) (fun re' pi' ro' y hy K' h3 h4 => ?_)
    · exact nm_r (nI_1 l) (ih (l + 1) (by omega) B ro co re pi _ y cd hk hsup12 hy K (zm_GI_old I hsp))
    · exact nm_r (nI_1 l) (ih (l + 1) (by omega) (B + 1) ro' _ re' pi' _ y _ (by omega) hsup12 hy K' (zm_GI_new hk hl2 I h3 h4))
theorem zx_gather_21 {post : SX → Prop} {M : Nat} (hM : M ≤ 3) (hme : ∀ i, i < M → me i < 3) (ok : zm_OK sz st en sp)
    (HP : ∀ B ro co re pi nw nx, zx_P nw → zx_P nx → B ≤ 4 * M → zm_GR (zm_rw st sp me sg M) B ro → post (nI M, nI B, nI B, zf_n sz, zf_c st, zf_c en, zf_c sp, zf_n me, zf_c sg, zf_c ro, zf_n co, zf_c re, zf_n pi, zf_c nw, zf_c nx, zf_c ke)) :
    ∀ d k, k + d = 12 → ∀ B ro co re pi nw nx cd, k ≤ B → zx_P nw → zx_P nx → zm_K (4 * M) B re pi ro → zm_GI (zm_rw st sp me sg M) B ro cd k 0 → wX_gather_21 post (d + 1) (nI k) (nI M) (nI B) (nI B) (zf_n sz) (zf_c st) (zf_c en) (zf_c sp) (zf_n me) (zf_c sg) (zf_c ro) (zf_n co) (zf_c re) (zf_n pi) (zf_c nw) (zf_c nx) (zf_c ke) := by
  intro d
  induction d with
  | zero =>
    intro k hk B ro co re pi nw nx cd hkB h12 hx12 K I
    have hB := zm_Q_dim K.1
    exact pk_le 12 k (fun _ => HP B ro co re pi nw nx h12 hx12 hB (zm_GI_all (zm_T_Lin sp me M) (by omega) I)) (fun z => by omega)
  | succ d ih =>
    intro k hk B ro co re pi nw nx cd hkB h12 hx12 K I
    have hB := zm_Q_dim K.1
    refine pk_le 12 k (fun z => by omega) (fun _ => pk_le B k (fun z => HP B ro co re pi nw nx h12 hx12 hB (zm_GI_all (zm_T_Lin sp me M) z I)) (fun z => ⟨3, ?_⟩))
    exact zx_gather_37 hM hme ok (fun B ro co re pi nw nx cd h12 hx12 K I hkB => ih (k + 1) (by omega) B ro co re pi nw nx cd hkB h12 hx12 K I) 2 0 rfl B ro co re pi nw nx cd z h12 hx12 K I
theorem zx_gather {post : SX → Prop} {M : Nat} {ro re : Nat → zf_F} {co pi : Nat → Nat} {nw nx : Nat → zf_F} (hM : M ≤ 3) (hme : ∀ i, i < M → me i < 3) (ok : zm_OK sz st en sp) (h12 : zx_P nw) (hx12 : zx_P nx)
    (HP : ∀ B ro co re pi nw nx, zx_P nw → zx_P nx → B ≤ 4 * M → zm_GR (zm_rw st sp me sg M) B ro → post (nI M, nI B, nI B, zf_n sz, zf_c st, zf_c en, zf_c sp, zf_n me, zf_c sg, zf_c ro, zf_n co, zf_c re, zf_n pi, zf_c nw, zf_c nx, zf_c ke)) :
    wpX_gather post (nI M, w, b, zf_n sz, zf_c st, zf_c en, zf_c sp, zf_n me, zf_c sg, zf_c ro, zf_n co, zf_c re, zf_n pi, zf_c nw, zf_c nx, zf_c ke) := by
  have e1 : zm_srow st me sg (4 * M) = zm_rw st sp me sg M 1 := (zm_vw_1 _ _).symm
  have hsup := zm_rw_supp st sp me sg M 1 (Nat.le_refl _)
  have hsup12 : zx_P (zm_rw st sp me sg M 1) := fun j hj => hsup j (by omega)
  unfold wpX_gather
  refine zx_startRow (w := nI 0) (b := nI 0) hM hme ok h12 ?_
  rw [e1]
  refine zx_keepRow (code := 1) (B := 0) (D := 4 * M) (by omega) (zm_K_0 _ _ _ _) hsup hx12 (fun y hy hsp => ?_) (fun re' pi' ro' y hy K' h3 h4 => ?_)
  · exact ⟨13, zx_gather_21 hM hme ok HP 12 0 rfl 0 ro co re pi _ y (fun _ => 1) (Nat.le_refl _) hsup12 hy (zm_K_0 _ _ _ _) (zm_GI_0 hsp)⟩
  · exact ⟨13, zx_gather_21 hM hme ok HP 12 0 rfl 1 ro' _ re' pi' _ y _ (by decide) hsup12 hy K' (zm_GI_1 h4)⟩
/-! stepBack -/
theorem zx_stepBack_36 {post : SX → Prop} {J : zx_J1} {ro re : Nat → zf_F} {co pi : Nat → Nat} {nw nx : Nat → zf_F} {a l p : Nat} (ha : a < 3) (hl : l < 2) (ok : zm_OK sz st en sp) (hp : p < 4) (h0 : nx p = 0)
    (H : J (nI (p + 1)) (zf_n sz) (zf_c st) (zf_c en) (zf_c sp) (zf_n me) (zf_c sg) (zf_c ro) (zf_n co) (zf_c re) (zf_n pi) (zf_c nw) (zf_c (zf_u nx p (zm_bs sp a l nw p 4))) (zf_c ke)) : ∃ n, wX_stepBack_36 post J (nI a) (nI l) (nI p) m w b n 0 (zf_n sz) (zf_c st) (zf_c en) (zf_c sp) (zf_n me) (zf_c sg) (zf_c ro) (zf_n co) (zf_c re) (zf_n pi) (zf_c nw) (zf_c nx) (zf_c ke) := by
  have hs := (ok.1 a ha).2
  have e2 : zf_n sz (nI a).toNatClampNeg = nI (sz a) := zf_atn sz a rfl (by omega)
  have e00 : nx = zf_u nx p (zm_bs sp a l nw p 0) := by
    funext j
    by_cases e : j = p
    · subst e; rw [zf_us, h0]; rfl
    · rw [zf_un e]
  refine loop_0 (fun n q s => wX_stepBack_36 post J (nI a) (nI l) (nI p) m w b n (nI q) (zf_n sz) (zf_c st) (zf_c en) (zf_c sp) (zf_n me) (zf_c sg) (zf_c ro) (zf_n co) (zf_c re) (zf_n pi) (zf_c nw) (zf_c s) (zf_c ke)) (fun q s => s = zf_u nx p (zm_bs sp a l nw p q)) (sz a) nx e00 (fun n s hI => ?_) (fun n q s hq hI ih => ?_)
  · subst hI
    refine And.intro (pk_in a 3 ha) (pk_le (sz a) (sz a) (fun _ => nm_r (nI_1 p) ?_) (fun z => by omega) e2)
    rw [zm_bs_end sp a l nw p (sz a) hs (fun q' h1 h2 => ok.2.2 a l p q' ha hl hp h2 (Or.inr h1))]
    exact H
  · subst hI
    have k0 : zf_c sp (32 * nI a + 16 * nI l + 4 * nI p + nI q).toNatClampNeg = zf_I (sp (32 * a + 16 * l + 4 * p + q)) := zf_at sp _ (zx_kst _ _ _ _) (by omega)
    have k2 : zf_c nw (nI q).toNatClampNeg = zf_I (nw q) := zf_at nw q rfl (by omega)
    have k3 : zf_c (zf_u nx p (zm_bs sp a l nw p q)) (nI p).toNatClampNeg = zf_I (zm_bs sp a l nw p q) := by
      rw [zf_at _ p rfl (by omega), zf_us]
    refine And.intro (pk_in a 3 ha) (pk_le (sz a) q (fun z => by omega) (fun _ => ⟨pk_in p 12 (by omega), pk_in (32 * a + 16 * l + 4 * p + q) 96 (by omega) (zx_kst _ _ _ _), pk_in q 12 (by omega), by decide, pk_in p 12 (by omega),
      nm_r (zf_upi _ p (zm_bs sp a l nw p (q + 1)) rfl (by omega) (by rw [k0, k2, k3]; exact zf_fma _ _ _)) (nm_r (nI_1 q) (ih _ ?_))⟩) e2)
    funext j
    by_cases e : j = p
    · subst e; rw [zf_us, zf_us]
    · rw [zf_un e, zf_un e, zf_un e]
theorem zx_stepBack_107 {post : SX → Prop} {ro re : Nat → zf_F} {co pi : Nat → Nat} {nw nx : Nat → zf_F} (h12 : zx_P nw) (hx12 : zx_P nx) (H : post (m, w, b, zf_n sz, zf_c st, zf_c en, zf_c sp, zf_n me, zf_c sg, zf_c ro, zf_n co, zf_c re, zf_n pi, zf_c nx, zf_c nx, zf_c ke)) : ∃ n, wX_stepBack_107 post m w b n 0 (zf_n sz) (zf_c st) (zf_c en) (zf_c sp) (zf_n me) (zf_c sg) (zf_c ro) (zf_n co) (zf_c re) (zf_n pi) (zf_c nw) (zf_c nx) (zf_c ke) := by
  refine loop_0 (fun n i s => wX_stepBack_107 post m w b n (nI i) (zf_n sz) (zf_c st) (zf_c en) (zf_c sp) (zf_n me) (zf_c sg) (zf_c ro) (zf_n co) (zf_c re) (zf_n pi) (zf_c s) (zf_c nx) (zf_c ke)) (fun i s => ∀ j, (j < i ∨ 12 ≤ j) → s j = nx j) 12 nw (fun j h => by rw [h12 j (by omega), hx12 j (by omega)]) (fun n s hI => ?_) (fun n i s hi hI ih => ?_)
  · have e : s = nx := funext (fun j => hI j (by omega))
    subst e
    exact pk_le 12 12 (fun _ => H) (fun z => by omega)
  · exact pk_le 12 i (fun z => by omega) (fun _ => ⟨pk_in i 12 hi, pk_in i 12 hi, nm_r (zf_upi s i (nx i) rfl (by omega) (zf_at nx i rfl (by omega))) (nm_r (nI_1 i) (ih _ (zx_fill hI rfl)))⟩)
theorem zx_stepBack_23 {post : SX → Prop} {ro re : Nat → zf_F} {co pi : Nat → Nat} {nw : Nat → zf_F} {a l : Nat} (ha : a < 3) (hl : l < 2) (ok : zm_OK sz st en sp) (h12 : zx_P nw)
    (H : post (m, w, b, zf_n sz, zf_c st, zf_c en, zf_c sp, zf_n me, zf_c sg, zf_c ro, zf_n co, zf_c re, zf_n pi, zf_c (zm_bk sp a l nw), zf_c (zm_bk sp a l nw), zf_c ke)) : ∃ n, wX_stepBack_23 post (nI a) (nI l) m w b n 0 (zf_n sz) (zf_c st) (zf_c en) (zf_c sp) (zf_n me) (zf_c sg) (zf_c ro) (zf_n co) (zf_c re) (zf_n pi) (zf_c nw) (zf_c (fun _ => 0)) (zf_c ke) := by
  have hs := (ok.1 a ha).2
  have e2 : zf_n sz (nI a).toNatClampNeg = nI (sz a) := zf_atn sz a rfl (by omega)
  refine loop_0 (fun n p s => wX_stepBack_23 post (nI a) (nI l) m w b n (nI p) (zf_n sz) (zf_c st) (zf_c en) (zf_c sp) (zf_n me) (zf_c sg) (zf_c ro) (zf_n co) (zf_c re) (zf_n pi) (zf_c nw) (zf_c s) (zf_c ke)) (fun p s => ∀ j, s j = if j < p then zm_bk sp a l nw j else 0) (sz a) (fun _ => 0) (fun j => (if_neg (by omega)).symm) (fun n s hI => ?_) (fun n p s hp hI ih => ?_)
  · have e : s = zm_bk sp a l nw := by
      funext j
      rw [hI]
      by_cases h : j < sz a
      · rw [if_pos h]
      · rw [if_neg h]
        by_cases h4 : j < 4
        · have e3 : zm_bs sp a l nw j 0 = zm_bs sp a l nw j 4 := zm_bs_end sp a l nw j 0 (by omega) (fun q' h1 h2 => ok.2.2 a l j q' ha hl h4 h2 (Or.inl (by omega)))
          unfold zm_bk
          rw [if_pos h4, ← e3]; rfl
        · exact (if_neg h4).symm
    subst e
    exact And.intro (pk_in a 3 ha) (pk_le (sz a) (sz a) (fun _ => zx_stepBack_107 h12 (fun j hj => zm_bk_P sp a l nw j (by omega)) H) (fun z => by omega) e2)
  · refine And.intro (pk_in a 3 ha) (pk_le (sz a) p (fun z => by omega) (fun _ => ?_) e2)
    refine zx_stepBack_36 ha hl ok (by omega) (by rw [hI, if_neg (by omega)]) (ih _ (fun j => ?_))
    by_cases e : j = p
    · subst e
      rw [zf_us, if_pos (by omega)]
      exact (if_pos (by omega)).symm
    · rw [zf_un e, hI]
      by_cases h : j < p
      · rw [if_pos h, if_pos (by omega)]
      · rw [if_neg h, if_neg (by omega)]
theorem zx_stepBack {post : SX → Prop} {ro re : Nat → zf_F} {co pi : Nat → Nat} {nw nx : Nat → zf_F} {a l : Nat} (ha : a < 3) (hl : l < 2) (ok : zm_OK sz st en sp) (h12 : zx_P nw) (hx12 : zx_P nx)
    (H : post (m, w, b, zf_n sz, zf_c st, zf_c en, zf_c sp, zf_n me, zf_c sg, zf_c ro, zf_n co, zf_c re, zf_n pi, zf_c (zm_bk sp a l nw), zf_c (zm_bk sp a l nw), zf_c ke)) : wpX_stepBack post (m, w, b, zf_n sz, zf_c st, zf_c en, zf_c sp, zf_n me, zf_c sg, zf_c ro, zf_n co, zf_c re, zf_n pi, zf_c nw, zf_c nx, zf_c ke) (nI a) (nI l) := by
  refine loop_0 (fun n i s => wX_stepBack_2 post (nI a) (nI l) m w b n (nI i) (zf_n sz) (zf_c st) (zf_c en) (zf_c sp) (zf_n me) (zf_c sg) (zf_c ro) (zf_n co) (zf_c re) (zf_n pi) (zf_c nw) (zf_c s) (zf_c ke)) (fun i s => ∀ j, (j < i ∨ 12 ≤ j) → s j = 0) 12 nx (fun j h => hx12 j (by omega)) (fun n s hI => ?_) (fun n i s hi hI ih => ?_)
  · have e : s = fun _ => 0 := funext (fun j => hI j (by omega))
    subst e
    exact pk_le 12 12 (fun _ => zx_stepBack_23 ha hl ok h12 H) (fun z => by omega)
  · exact pk_le 12 i (fun z => by omega) (fun _ => ⟨pk_in i 12 hi, nm_r (zf_upi s i 0 rfl (by omega) rfl) (nm_r (nI_1 i) (ih _ (zx_fill (y := fun _ => 0) hI rfl)))⟩)
/-! gatherBack -/
theorem zm_cw_supp (sp en : Nat → zf_F) (a c : Nat) (hc : 1 ≤ c) : zy_P (zm_vw (zm_bk sp a) (zm_yst en a) c) := zm_vw_ind (P := zy_P) (zm_yst_P en a) (fun l v _ _ => zm_bk_P sp a l v) c hc
theorem zx_gatherBack_77 {post : SX → Prop} {J : zx_J4} {a k : Nat} (ha : a < 3) (ok : zm_OK sz st en sp)
    (HJ : ∀ B ro co re pi nw nx cd, zx_P nw → zx_P nx → zm_K 4 B re pi ro → zm_GI (zm_vw (zm_bk sp a) (zm_yst en a)) B ro cd (k + 1) 0 → k + 1 ≤ B → J (nI (k + 1)) m (nI B) (nI B) (zf_n sz) (zf_c st) (zf_c en) (zf_c sp) (zf_n me) (zf_c sg) (zf_c ro) (zf_n co) (zf_c re) (zf_n pi) (zf_c nw) (zf_c nx) (zf_c ke)) :
    ∀ d l, l + d = 2 → ∀ B ro co re pi nw nx cd, k < B → zx_P nw → zx_P nx → zm_K 4 B re pi ro → zm_GI (zm_vw (zm_bk sp a) (zm_yst en a)) B ro cd k l → wX_gatherBack_77 post J (nI a) (nI k) (d + 1) (nI l) m (nI B) (nI B) (zf_n sz) (zf_c st) (zf_c en) (zf_c sp) (zf_n me) (zf_c sg) (zf_c ro) (zf_n co) (zf_c re) (zf_n pi) (zf_c nw) (zf_c nx) (zf_c ke) := by
  intro d
  induction d with
  | zero =>
    intro l hl B ro co re pi nw nx cd hk h12 hx12 K I
    have : l = 2 := by omega
    subst this
    exact pk_le 2 2 (fun _ => nm_r (nI_1 k) (HJ B ro co re pi nw nx cd h12 hx12 K (zm_GI_next I) hk)) (fun z => by omega)
  | succ d ih =>
    intro l hl B ro co re pi nw nx cd hk h12 hx12 K I
    have hB := zm_Q_dim K.1
    have hl2 : l < 2 := by omega
    have er : zm_row ro k = zm_vw (zm_bk sp a) (zm_yst en a) (cd k) := (I.1 k hk).1
    have ev : zm_bk sp a l (zm_row ro k) = zm_vw (zm_bk sp a) (zm_yst en a) (2 * cd k + l) := by
      rw [er]
      exact (zm_vw_s (zm_bk sp a) _ (I.1 k hk).2.1 hl2).symm
    have hsup := zm_cw_supp sp en a (2 * cd k + l) (by have := (I.1 k hk).2.1; omega)
    have hsup12 : zx_P (zm_vw (zm_bk sp a) (zm_yst en a) (2 * cd k + l)) := fun j hj => hsup j (by omega)
    refine pk_le 2 l (fun z => by omega) (fun _ => ?_)
    refine zx_takeRow (by omega) h12 ?_
    refine zx_stepBack ha hl2 ok (fun j hj => if_neg (by omega)) hx12 ?_
    rw [ev]
    refine zx_keepRow (code := 1) (by omega) K hsup hsup12 (fun y hy hsp => ?_) (fun re' pi' ro' y hy K' h3 h4 => ?_)
    · exact nm_r (nI_1 l) (ih (l + 1) (by omega) B ro co re pi _ y cd hk hsup12 hy K (zm_GI_old I hsp))
    · exact nm_r (nI_1 l) (ih (l + 1) (by omega) (B + 1) ro' _ re' pi' _ y _ (by omega) hsup12 hy K' (zm_GI_new hk hl2 I h3 h4))
theorem zx_gatherBack_61 {post : SX → Prop} {a : Nat} (ha : a < 3) (ok : zm_OK sz st en sp)
    (HP : ∀ B ro co re pi nw nx, zx_P nw → zx_P nx → B ≤ 4 → zm_GR (zm_vw (zm_bk sp a) (zm_yst en a)) B ro → post (m, nI B, nI B, zf_n sz, zf_c st, zf_c en, zf_c sp, zf_n me, zf_c sg, zf_c ro, zf_n co, zf_c re, zf_n pi, zf_c nw, zf_c nx, zf_c ke)) :
    ∀ d k, k + d = 12 → ∀ B ro co re pi nw nx cd, k ≤ B → zx_P nw → zx_P nx → zm_K 4 B re pi ro → zm_GI (zm_vw (zm_bk sp a) (zm_yst en a)) B ro cd k 0 → wX_gatherBack_61 post (nI a) (d + 1) (nI k) m (nI B) (nI B) (zf_n sz) (zf_c st) (zf_c en) (zf_c sp) (zf_n me) (zf_c sg) (zf_c ro) (zf_n co) (zf_c re) (zf_n pi) (zf_c nw) (zf_c nx) (zf_c ke) := by
  intro d
  induction d with
  | zero =>
    intro k hk B ro co re pi nw nx cd hkB h12 hx12 K I
    have hB := zm_Q_dim K.1
    exact pk_le 12 k (fun _ => HP B ro co re pi nw nx h12 hx12 hB (zm_GI_all (zm_bk_Lin sp a) (by omega) I)) (fun z => by omega)
  | succ d ih =>
    intro k hk B ro co re pi nw nx cd hkB h12 hx12 K I
    have hB := zm_Q_dim K.1
    refine pk_le 12 k (fun z => by omega) (fun _ => pk_le B k (fun z => HP B ro co re pi nw nx h12 hx12 hB (zm_GI_all (zm_bk_Lin sp a) z I)) (fun z => ⟨3, ?_⟩))
    exact zx_gatherBack_77 ha ok (fun B ro co re pi nw nx cd h12 hx12 K I hkB => ih (k + 1) (by omega) B ro co re pi nw nx cd hkB h12 hx12 K I) 2 0 rfl B ro co re pi nw nx cd z h12 hx12 K I
theorem zx_gatherBack {post : SX → Prop} {ro re : Nat → zf_F} {co pi : Nat → Nat} {nw nx : Nat → zf_F} {a : Nat} (ha : a < 3) (ok : zm_OK sz st en sp) (h12 : zx_P nw) (hx12 : zx_P nx)
    (HP : ∀ B ro co re pi nw nx, zx_P nw → zx_P nx → B ≤ 4 → zm_GR (zm_vw (zm_bk sp a) (zm_yst en a)) B ro → post (m, nI B, nI B, zf_n sz, zf_c st, zf_c en, zf_c sp, zf_n me, zf_c sg, zf_c ro, zf_n co, zf_c re, zf_n pi, zf_c nw, zf_c nx, zf_c ke)) : wpX_gatherBack post (m, w, b, zf_n sz, zf_c st, zf_c en, zf_c sp, zf_n me, zf_c sg, zf_c ro, zf_n co, zf_c re, zf_n pi, zf_c nw, zf_c nx, zf_c ke) (nI a) := by
  have hs := (ok.1 a ha).2
  have e2 : zf_n sz (nI a).toNatClampNeg = nI (sz a) := zf_atn sz a rfl (by omega)
  have e1 : zm_yst en a = zm_vw (zm_bk sp a) (zm_yst en a) 1 := (zm_vw_1 _ _).symm
  have hsup := zm_cw_supp sp en a 1 (Nat.le_refl _)
  have hsup12 : zx_P (zm_vw (zm_bk sp a) (zm_yst en a) 1) := fun j hj => hsup j (by omega)
  refine loop_0 (fun n i s => wX_gatherBack_12 post (nI a) m (nI 0) (nI 0) n (nI i) (zf_n sz) (zf_c st) (zf_c en) (zf_c sp) (zf_n me) (zf_c sg) (zf_c ro) (zf_n co) (zf_c re) (zf_n pi) (zf_c s) (zf_c nx) (zf_c ke)) (fun i s => ∀ j, (j < i ∨ 12 ≤ j) → s j = zm_yst en a j) 12 nw (fun j h => by rw [h12 j (by omega)]; exact (if_neg (by omega)).symm) (fun n s hI => ?_) (fun n i s hi hI ih => ?_)
  · have e : s = zm_vw (zm_bk sp a) (zm_yst en a) 1 := by rw [← e1]; exact funext (fun j => hI j (by omega))
    subst e
    refine pk_le 12 12 (fun _ => zx_keepRow (code := 1) (B := 0) (D := 4) (by omega) (zm_K_0 _ _ _ _) hsup hx12 (fun y hy hsp => ?_) (fun re' pi' ro' y hy K' h3 h4 => ?_)) (fun z => by omega)
    · exact ⟨13, zx_gatherBack_61 ha ok HP 12 0 rfl 0 ro co re pi _ y (fun _ => 1) (Nat.le_refl _) hsup12 hy (zm_K_0 _ _ _ _) (zm_GI_0 hsp)⟩
    · exact ⟨13, zx_gatherBack_61 ha ok HP 12 0 rfl 1 ro' _ re' pi' _ y _ (by decide) hsup12 hy K' (zm_GI_1 h4)⟩
  · refine pk_le 12 i (fun z => by omega) (fun _ => ⟨pk_in a 3 ha, pk_le (sz a) i (fun z => ⟨pk_in i 12 hi, nm_r (zf_upi s i 0 rfl (by omega) rfl) (nm_r (nI_1 i) (ih _ (zx_fill hI ?_)))⟩) (fun z => ⟨pk_in (4 * a + i) 12 (by omega) (zx_k4 _ _), pk_in i 12 hi, nm_r (zf_upi s i (en (4 * a + i)) rfl (by omega) (zf_at en _ (zx_k4 _ _) (by omega))) (nm_r (nI_1 i) (ih _ (zx_fill hI ?_)))⟩) e2⟩)
    · unfold zm_yst
      by_cases h4 : i < 4
      · rw [if_pos h4]; exact (ok.2.1 a i ha h4 z).2.symm
      · rw [if_neg h4]
    · exact (if_pos (by omega)).symm
end
end
section
/-! rank of X -/
def zm_dt (x y : zf_V) : zf_F := zl_sum (fun q => x q * y q) 4
/-- row i of the products -/
def zm_fx (R C : Nat → zf_V) (n : Nat) (i : Nat) : zf_V := fun j => if j < n then zm_dt (R i) (C j) else 0
def zm_RX (vr vc : Nat → zf_V) (B : Nat) : Prop := ∃ (B1 B2 : Nat) (r1 r2 re : Nat → zf_F) (pi : Nat → Nat), B1 ≤ 4 ∧ B2 ≤ 4 ∧ zm_GR vr B1 r1 ∧ zm_GR vc B2 r2 ∧ zm_Q 12 B re pi ∧
  (∀ c, c < B → zl_Sp (zm_fx (zm_row r1) (zm_row r2) B2) B1 (zm_row re c)) ∧ ∀ i, i < B1 → zl_Sp (zm_row re) B (zm_fx (zm_row r1) (zm_row r2) B2 i)
def zm_pv (ke : Nat → zf_F) (n i : Nat) : zf_V := fun j => if j < n then zl_sum (fun q => ke (4 * i + q) * ke (16 + 4 * j + q)) 4 else 0
theorem zx_k16 (a q : Nat) : 16 + 4 * nI a + nI q = nI (16 + 4 * a + q) := by rw [← nI_add, ← nI_add, ← pk_mul]; rfl
section
variable {m w b : Int32} {sz : Nat → Nat} {st en sp : Nat → zf_F} {me : Nat → Nat} {sg ro : Nat → zf_F} {co : Nat → Nat} {re : Nat → zf_F} {pi : Nat → Nat} {nw nx ke : Nat → zf_F}
theorem zx_rank_177 {post : Int32 → SX → Prop} {J150 : zx_J4} {J159 : zx_J1} {x2 : Int32} {B2 i j : Nat} (hi : i < 4) (hB2 : B2 ≤ 4) (hj : j < 12) (h0 : nw j = 0)
    (H : J159 (nI (j + 1)) (zf_n sz) (zf_c st) (zf_c en) (zf_c sp) (zf_n me) (zf_c sg) (zf_c ro) (zf_n co) (zf_c re) (zf_n pi) (zf_c (zf_u nw j (zm_pv ke B2 i j))) (zf_c nx) (zf_c ke)) : ∃ n, wX_rank_177 post J150 J159 x2 (nI B2) (nI i) (nI j) m w b n 0 (zf_n sz) (zf_c st) (zf_c en) (zf_c sp) (zf_n me) (zf_c sg) (zf_c ro) (zf_n co) (zf_c re) (zf_n pi) (zf_c nw) (zf_c nx) (zf_c ke) := by
  have eu : nw = zf_u nw j 0 := by
    funext k
    by_cases e : k = j
    · subst e; rw [zf_us, h0]
    · rw [zf_un e]
  by_cases hb : B2 ≤ j
  · have e : zm_pv ke B2 i j = 0 := if_neg (by omega)
    rw [e, ← eu] at H
    exact ⟨1, pk_le 4 0 (fun z => by omega) (fun _ => pk_le B2 j (fun _ => nm_r (nI_1 j) H) (fun z => by omega))⟩
  · have e : zm_pv ke B2 i j = zl_sum (fun q => ke (4 * i + q) * ke (16 + 4 * j + q)) 4 := if_pos (by omega)
    rw [e] at H
    refine loop_0 (fun n q s => wX_rank_177 post J150 J159 x2 (nI B2) (nI i) (nI j) m w b n (nI q) (zf_n sz) (zf_c st) (zf_c en) (zf_c sp) (zf_n me) (zf_c sg) (zf_c ro) (zf_n co) (zf_c re) (zf_n pi) (zf_c s) (zf_c nx) (zf_c ke)) (fun q s => s = zf_u nw j (zl_sum (fun q => ke (4 * i + q) * ke (16 + 4 * j + q)) q)) 4 nw eu (fun n s hI => ?_) (fun n q s hq hI ih => ?_)
    · subst hI
      exact pk_le 4 4 (fun _ => nm_r (nI_1 j) H) (fun z => by omega)
    · subst hI
      have k0 : zf_c ke (4 * nI i + nI q).toNatClampNeg = zf_I (ke (4 * i + q)) := zf_at ke _ (zx_k4 _ _) (by omega)
      have k1 : zf_c ke (16 + 4 * nI j + nI q).toNatClampNeg = zf_I (ke (16 + 4 * j + q)) := zf_at ke _ (zx_k16 _ _) (by omega)
      have k3 : zf_c (zf_u nw j (zl_sum (fun q => ke (4 * i + q) * ke (16 + 4 * j + q)) q)) (nI j).toNatClampNeg = zf_I (zl_sum (fun q => ke (4 * i + q) * ke (16 + 4 * j + q)) q) := by
        rw [zf_at _ j rfl (by omega), zf_us]
      refine pk_le 4 q (fun z => by omega) (fun _ => pk_le B2 j (fun z => by omega) (fun _ => ⟨pk_in j 12 hj, pk_in (4 * i + q) 48 (by omega) (zx_k4 _ _), pk_in (16 + 4 * j + q) 48 (by omega) (zx_k16 _ _), by decide, pk_in j 12 hj,
        nm_r (zf_upi _ j (zl_sum (fun q => ke (4 * i + q) * ke (16 + 4 * j + q)) (q + 1)) rfl (by omega) (by rw [k0, k1, k3]; exact zf_fma _ _ _)) (nm_r (nI_1 q) (ih _ ?_))⟩))
      funext k
      by_cases e : k = j
      · subst e; rw [zf_us, zf_us]
      · rw [zf_un e, zf_un e, zf_un e]
theorem zx_rank_159 {post : Int32 → SX → Prop} {J150 : zx_J4} {x2 : Int32} {B2 i : Nat} (hi : i < 4) (hB2 : B2 ≤ 4) (h12 : zx_P nw)
    (H : wpX_enterBasis (fun _ u => match u with | (a1, a2, a3, a4, a5, a6, a7, a8, a9, a10, a11, a12, a13, a14, a15, a16) => J150 (nI (i + 1)) a1 a2 a3 a4 a5 a6 a7 a8 a9 a10 a11 a12 a13 a14 a15 a16) (m, w, b, zf_n sz, zf_c st, zf_c en, zf_c sp, zf_n me, zf_c sg, zf_c ro, zf_n co, zf_c re, zf_n pi, zf_c (zm_pv ke B2 i), zf_c nx, zf_c ke)) : ∃ n, wX_rank_159 post J150 x2 (nI B2) (nI i) m w b n 0 (zf_n sz) (zf_c st) (zf_c en) (zf_c sp) (zf_n me) (zf_c sg) (zf_c ro) (zf_n co) (zf_c re) (zf_n pi) (zf_c nw) (zf_c nx) (zf_c ke) := by
  refine loop_0 (fun n j s => wX_rank_159 post J150 x2 (nI B2) (nI i) m w b n (nI j) (zf_n sz) (zf_c st) (zf_c en) (zf_c sp) (zf_n me) (zf_c sg) (zf_c ro) (zf_n co) (zf_c re) (zf_n pi) (zf_c s) (zf_c nx) (zf_c ke)) (fun j s => ∀ k, (k < j ∨ 12 ≤ k) → s k = zm_pv ke B2 i k) 12 nw (fun k h => by rw [h12 k (by omega)]; exact (if_neg (by omega)).symm) (fun n s hI => ?_) (fun n j s hj hI ih => ?_)
  · have e : s = zm_pv ke B2 i := funext (fun k => hI k (by omega))
    subst e
    refine pk_le 12 12 (fun _ => ?_) (fun z => by omega)
    have e2 : (fun (r_58 : Int32) (u : SX) => match u with | (a1, a2, a3, a4, a5, a6, a7, a8, a9, a10, a11, a12, a13, a14, a15, a16) => ∀ x4_75 : Int32, x4_75 = nI i + 1 → J150 x4_75 a1 a2 a3 a4 a5 a6 a7 a8 a9 a10 a11 a12 a13 a14 a15 a16) = (fun (_ : Int32) (u : SX) => match u with | (a1, a2, a3, a4, a5, a6, a7, a8, a9, a10, a11, a12, a13, a14, a15, a16) => J150 (nI (i + 1)) a1 a2 a3 a4 a5 a6 a7 a8 a9 a10 a11 a12 a13 a14 a15 a16) := by
      funext r u
      obtain ⟨a1, a2, a3, a4, a5, a6, a7, a8, a9, a10, a11, a12, a13, a14, a15, a16⟩ := u
      dsimp only
      rw [nI_1]
      exact propext ⟨fun h => h _ rfl, fun h x hx => by rw [hx]; exact h⟩
    rw [← e2] at H
    exact H
  · refine pk_le 12 j (fun z => by omega) (fun _ => ⟨pk_in j 12 hj, nm_r (zf_upi s j 0 rfl (by omega) rfl) ?_⟩)
    refine zx_rank_177 hi hB2 hj zf_us (ih _ (fun k hk => ?_))
    by_cases e : k = j
    · subst e; rw [zf_us]
    · rw [zf_un e, zf_un e]; exact hI k (by omega)
theorem zx_rank_150 {post : Int32 → SX → Prop} {B1 B2 : Nat} (hB1 : B1 ≤ 4) (hB2 : B2 ≤ 4)
    (HP : ∀ B re pi nw nx, zx_P nw → zx_P nx → zm_Q 12 B re pi → (∀ c, c < B → zl_Sp (zm_pv ke B2) B1 (zm_row re c)) → (∀ i, i < B1 → zl_Sp (zm_row re) B (zm_pv ke B2 i)) → post (nI B) (m, w, nI B, zf_n sz, zf_c st, zf_c en, zf_c sp, zf_n me, zf_c sg, zf_c ro, zf_n co, zf_c re, zf_n pi, zf_c nw, zf_c nx, zf_c ke)) :
    ∀ d i, i + d = B1 → ∀ B re pi nw nx, zx_P nw → zx_P nx → zm_Q 12 B re pi → (∀ c, c < B → zl_Sp (zm_pv ke B2) i (zm_row re c)) → (∀ i', i' < i → zl_Sp (zm_row re) B (zm_pv ke B2 i')) → wX_rank_150 post (nI B1) (nI B2) (d + 1) (nI i) m w (nI B) (zf_n sz) (zf_c st) (zf_c en) (zf_c sp) (zf_n me) (zf_c sg) (zf_c ro) (zf_n co) (zf_c re) (zf_n pi) (zf_c nw) (zf_c nx) (zf_c ke) := by
  intro d
  induction d with
  | zero =>
    intro i hi B re pi nw nx h12 hx12 Q h1 h2
    have : i = B1 := by omega
    subst this
    exact pk_le i i (fun _ => HP B re pi nw nx h12 hx12 Q h1 h2) (fun z => by omega)
  | succ d ih =>
    intro i hi B re pi nw nx h12 hx12 Q h1 h2
    have hp : zx_P (zm_pv ke B2 i) := fun j hj => if_neg (by omega)
    refine pk_le B1 i (fun z => by omega) (fun _ => zx_rank_159 (by omega) hB2 h12 ?_)
    refine zx_enterBasis (D := 12) (Nat.le_refl _) Q hp hx12 (fun y hy hz => ?_) (fun P re' y hy hn h3 h4 => ?_)
    · refine ih (i + 1) (by omega) B re pi _ y hp hy Q (fun c hc => zl_mono (Nat.le_succ i) (h1 c hc)) (fun i' hi' => ?_)
      by_cases e : i' = i
      · subst e; exact zm_Q_in hz
      · exact h2 i' (by omega)
    · have hold : ∀ c, c < B → zl_Sp (zm_row re') (B + 1) (zm_row re c) := fun c hc => by
        rw [← h3 c hc]; exact zl_mem (by omega)
      refine ih (i + 1) (by omega) (B + 1) re' _ _ y hp hy (zm_Q_S Q hp hn h3 h4) (fun c hc => ?_) (fun i' hi' => ?_)
      · by_cases e : c = B
        · subst e
          exact (zm_Q_mem (D := 12) hn h3 h4 (zl_Sp_Sub _ _) (fun c hc => zl_mono (Nat.le_succ i) (h1 c hc))).mpr (zl_mem (by omega))
        · rw [h3 c (by omega)]
          exact zl_mono (Nat.le_succ i) (h1 c (by omega))
      · by_cases e : i' = i
        · subst e
          exact (zm_Q_mem (D := 12) hn h3 h4 (zl_Sp_Sub _ _) hold).mp (zl_mem (by omega))
        · exact zl_le hold (h2 i' (by omega))
theorem zx_rank_96 {post : Int32 → SX → Prop} {J : zx_J1} {x2 x3 : Int32} {k : Nat} (hk : k < 4) {old : Nat → zf_F} (h : (∀ j, j < 4 * k → ke (16 + j) = ro (12 * (j / 4) + j % 4)) ∧ ∀ j, j < 16 → ke j = old j)
    (H : ∀ ke : Nat → zf_F, ((∀ j, j < 4 * (k + 1) → ke (16 + j) = ro (12 * (j / 4) + j % 4)) ∧ ∀ j, j < 16 → ke j = old j) → J (nI (k + 1)) (zf_n sz) (zf_c st) (zf_c en) (zf_c sp) (zf_n me) (zf_c sg) (zf_c ro) (zf_n co) (zf_c re) (zf_n pi) (zf_c nw) (zf_c nx) (zf_c ke)) : ∃ n, wX_rank_96 post J x2 x3 (nI k) m w b n 0 (zf_n sz) (zf_c st) (zf_c en) (zf_c sp) (zf_n me) (zf_c sg) (zf_c ro) (zf_n co) (zf_c re) (zf_n pi) (zf_c nw) (zf_c nx) (zf_c ke) := by
  refine loop_0 (fun n q s => wX_rank_96 post J x2 x3 (nI k) m w b n (nI q) (zf_n sz) (zf_c st) (zf_c en) (zf_c sp) (zf_n me) (zf_c sg) (zf_c ro) (zf_n co) (zf_c re) (zf_n pi) (zf_c nw) (zf_c nx) (zf_c s)) (fun q s => (∀ j, j < 4 * k + q → s (16 + j) = ro (12 * (j / 4) + j % 4)) ∧ ∀ j, j < 16 → s j = old j) 4 ke h (fun n s hI => ?_) (fun n q s hq hI ih => ?_)
  · exact pk_le 4 4 (fun _ => nm_r (nI_1 k) (H s hI)) (fun z => by omega)
  · have e : (4 * k + q) / 4 = k ∧ (4 * k + q) % 4 = q := by omega
    have := zx_fillat (base := 16) (k := 4 * k + q) (v := fun j => ro (12 * (j / 4) + j % 4)) hI (x := ro (12 * k + q)) (by rw [e.1, e.2])
    refine pk_le 4 q (fun z => by omega) (fun _ => ⟨pk_in (12 * k + q) 168 (by omega) (zx_k12 _ _), pk_in (16 + 4 * k + q) 48 (by omega) (zx_k16 _ _), nm_r (zf_upi s (16 + (4 * k + q)) (ro (12 * k + q)) (by rw [zx_k16]; exact congrArg nI (by omega)) (by omega) (zf_at ro _ (zx_k12 _ _) (by omega))) (nm_r (nI_1 q) (ih _ this))⟩)
theorem zx_rank_87 {post : Int32 → SX → Prop} {B1 B2 : Nat} (hB2 : B2 ≤ 4)
    (H : ∀ ke' : Nat → zf_F, ((∀ j, j < 4 * B2 → ke' (16 + j) = ro (12 * (j / 4) + j % 4)) ∧ ∀ j, j < 16 → ke' j = ke j) → ∃ n, wX_rank_150 post (nI B1) (nI B2) n 0 m w (nI 0) (zf_n sz) (zf_c st) (zf_c en) (zf_c sp) (zf_n me) (zf_c sg) (zf_c ro) (zf_n co) (zf_c re) (zf_n pi) (zf_c nw) (zf_c nx) (zf_c ke')) : ∃ n, wX_rank_87 post (nI B1) (nI B2) m w b n 0 (zf_n sz) (zf_c st) (zf_c en) (zf_c sp) (zf_n me) (zf_c sg) (zf_c ro) (zf_n co) (zf_c re) (zf_n pi) (zf_c nw) (zf_c nx) (zf_c ke) := by
  refine loop_0 (fun n k s => wX_rank_87 post (nI B1) (nI B2) m w b n (nI k) (zf_n sz) (zf_c st) (zf_c en) (zf_c sp) (zf_n me) (zf_c sg) (zf_c ro) (zf_n co) (zf_c re) (zf_n pi) (zf_c nw) (zf_c nx) (zf_c s)) (fun k s => (∀ j, j < 4 * k → s (16 + j) = ro (12 * (j / 4) + j % 4)) ∧ ∀ j, j < 16 → s j = ke j) B2 ke ⟨fun j hj => by omega, fun _ _ => rfl⟩ (fun n s hI => ?_) (fun n k s hk hI ih => ?_)
  · exact pk_le B2 B2 (fun _ => H s hI) (fun z => by omega)
  · exact pk_le B2 k (fun z => by omega) (fun _ => zx_rank_96 (by omega) hI (fun s' h' => ih s' h'))
theorem zx_rank_33 {post : Int32 → SX → Prop} {J : zx_J1} {x1 x2 : Int32} {k : Nat} (hk : k < 4) (h : ∀ j, j < 4 * k → ke j = ro (12 * (j / 4) + j % 4))
    (H : ∀ ke : Nat → zf_F, (∀ j, j < 4 * (k + 1) → ke j = ro (12 * (j / 4) + j % 4)) → J (nI (k + 1)) (zf_n sz) (zf_c st) (zf_c en) (zf_c sp) (zf_n me) (zf_c sg) (zf_c ro) (zf_n co) (zf_c re) (zf_n pi) (zf_c nw) (zf_c nx) (zf_c ke)) : ∃ n, wX_rank_33 post J x1 x2 (nI k) m w b n 0 (zf_n sz) (zf_c st) (zf_c en) (zf_c sp) (zf_n me) (zf_c sg) (zf_c ro) (zf_n co) (zf_c re) (zf_n pi) (zf_c nw) (zf_c nx) (zf_c ke) := by
  refine loop_0 (fun n q s => wX_rank_33 post J x1 x2 (nI k) m w b n (nI q) (zf_n sz) (zf_c st) (zf_c en) (zf_c sp) (zf_n me) (zf_c sg) (zf_c ro) (zf_n co) (zf_c re) (zf_n pi) (zf_c nw) (zf_c nx) (zf_c s)) (fun q s => ∀ j, j < 4 * k + q → s j = ro (12 * (j / 4) + j % 4)) 4 ke h (fun n s hI => ?_) (fun n q s hq hI ih => ?_)
  · exact pk_le 4 4 (fun _ => nm_r (nI_1 k) (H s hI)) (fun z => by omega)
  · refine pk_le 4 q (fun z => by omega) (fun _ => ⟨pk_in (12 * k + q) 168 (by omega) (zx_k12 _ _), pk_in (4 * k + q) 48 (by omega) (zx_k4 _ _), nm_r (zf_upi s (4 * k + q) (ro (12 * k + q)) (zx_k4 _ _) (by omega) (zf_at ro _ (zx_k12 _ _) (by omega))) (nm_r (nI_1 q) (ih _ (fun j hj => ?_)))⟩)
    by_cases e : j = 4 * k + q
    · subst e
      rw [zf_us, show (4 * k + q) / 4 = k by omega, show (4 * k + q) % 4 = q by omega]
    · rw [zf_un e]; exact hI j (by omega)
theorem zx_rank_25 {post : Int32 → SX → Prop} {x1 : Int32} {B1 : Nat} (hB1 : B1 ≤ 4)
    (H : ∀ ke : Nat → zf_F, (∀ j, j < 4 * B1 → ke j = ro (12 * (j / 4) + j % 4)) → wpX_gatherBack (fun u => match u with | (a1, a2, a3, a4, a5, a6, a7, a8, a9, a10, a11, a12, a13, a14, a15, a16) => (∃ n87 : Nat, wX_rank_87 post (nI B1) a3 a1 a2 a3 n87 0 a4 a5 a6 a7 a8 a9 a10 a11 a12 a13 a14 a15 a16)) (m, w, b, zf_n sz, zf_c st, zf_c en, zf_c sp, zf_n me, zf_c sg, zf_c ro, zf_n co, zf_c re, zf_n pi, zf_c nw, zf_c nx, zf_c ke) x1) : ∃ n, wX_rank_25 post x1 (nI B1) m w b n 0 (zf_n sz) (zf_c st) (zf_c en) (zf_c sp) (zf_n me) (zf_c sg) (zf_c ro) (zf_n co) (zf_c re) (zf_n pi) (zf_c nw) (zf_c nx) (zf_c ke) := by
  refine loop_0 (fun n k s => wX_rank_25 post x1 (nI B1) m w b n (nI k) (zf_n sz) (zf_c st) (zf_c en) (zf_c sp) (zf_n me) (zf_c sg) (zf_c ro) (zf_n co) (zf_c re) (zf_n pi) (zf_c nw) (zf_c nx) (zf_c s)) (fun k s => ∀ j, j < 4 * k → s j = ro (12 * (j / 4) + j % 4)) B1 ke (fun j hj => by omega) (fun n s hI => ?_) (fun n k s hk hI ih => ?_)
  · exact pk_le B1 B1 (fun _ => H s hI) (fun z => by omega)
  · exact pk_le B1 k (fun z => by omega) (fun _ => zx_rank_33 (by omega) hI (fun s' h' => ih s' h'))
theorem zm_pv_fx {r1 r2 ke : Nat → zf_F} {B1 B2 : Nat} (h1 : ∀ j, j < 4 * B1 → ke j = r1 (12 * (j / 4) + j % 4)) (h2 : ∀ j, j < 4 * B2 → ke (16 + j) = r2 (12 * (j / 4) + j % 4)) : ∀ i, i < B1 → zm_pv ke B2 i = zm_fx (zm_row r1) (zm_row r2) B2 i := by
  intro i hi
  funext j
  unfold zm_pv zm_fx
  by_cases h : j < B2
  · rw [if_pos h, if_pos h]
    refine zl_sum_congr (fun q hq => ?_)
    have e1 := h1 (4 * i + q) (by omega)
    have e2 := h2 (4 * j + q) (by omega)
    rw [show (4 * i + q) / 4 = i by omega, show (4 * i + q) % 4 = q by omega] at e1
    rw [show (4 * j + q) / 4 = j by omega, show (4 * j + q) % 4 = q by omega, ← Nat.add_assoc] at e2
    rw [e1, e2]
    unfold zm_row
    rw [if_pos (by omega), if_pos (by omega)]
  · rw [if_neg h, if_neg h]
theorem zx_rank {post : Int32 → SX → Prop} {a : Nat} (ha : a < 3) (ok : zm_OK sz st en sp) (h12 : zx_P nw) (hx12 : zx_P nx)
    (HP : ∀ (B W : Nat) (me : Nat → Nat) (sg ro : Nat → zf_F) (co : Nat → Nat) (re : Nat → zf_F) (pi : Nat → Nat) (nw nx ke : Nat → zf_F), zx_P nw → zx_P nx → me 0 = a → sg 0 = 1 → zm_RX (zm_rw st sp me sg 1) (zm_vw (zm_bk sp a) (zm_yst en a)) B → post (nI B) (nI 1, nI W, nI B, zf_n sz, zf_c st, zf_c en, zf_c sp, zf_n me, zf_c sg, zf_c ro, zf_n co, zf_c re, zf_n pi, zf_c nw, zf_c nx, zf_c ke)) : wpX_rank post (m, w, b, zf_n sz, zf_c st, zf_c en, zf_c sp, zf_n me, zf_c sg, zf_c ro, zf_n co, zf_c re, zf_n pi, zf_c nw, zf_c nx, zf_c ke) (nI a) := by
  unfold wpX_rank
  refine zx_good ha (br_f (by decide) ?_)
  refine zx_alone ?_
  have hme : ∀ i, i < 1 → zf_u me 0 a i < 3 := fun i hi => by
    have : i = 0 := by omega
    subst this
    rw [zf_us]; exact ha
  refine zx_gather (M := 1) (by decide) hme ok h12 hx12 (fun B1 r1 co re pi nw nx hw1 hx1 hB1 G1 => ?_)
  refine zx_rank_25 (by omega) (fun ke1 hk1 => ?_)
  refine zx_gatherBack ha ok hw1 hx1 (fun B2 r2 co re pi nw nx hw2 hx2 hB2 G2 => ?_)
  refine zx_rank_87 hB2 (fun ke2 hk2 => ?_)
  have hke : ∀ j, j < 4 * B1 → ke2 j = r1 (12 * (j / 4) + j % 4) := fun j hj => by rw [hk2.2 j (by omega)]; exact hk1 j hj
  have hf := zm_pv_fx hke hk2.1
  refine ⟨B1 + 1, zx_rank_150 (by omega) hB2 (fun B re' pi' nw nx hw hx Q q1 q2 => ?_) B1 0 (by omega) 0 re pi nw nx hw2 hx2 (zm_Q_0 _ _ _) (fun c hc => by omega) (fun i hi => by omega)⟩
  refine HP B B2 _ _ r2 co re' pi' nw nx ke2 hw hx zf_us zf_us ⟨B1, B2, r1, r2, re', pi', by omega, hB2, G1, G2, Q, fun c hc => zl_congr hf (q1 c hc), fun i hi => by rw [← hf i hi]; exact q2 i hi⟩
end
end
section
/-! rank of Y: elimination, its law -/
def zm_tr (T : Nat → zf_F) (i : Nat) : zf_V := fun j => if j < 15 then T (15 * i + j) else 0
def zm_sw (r o i : Nat) : Nat := if i = r then o else if i = o then r else i
def zm_EI (G : Nat → zf_V) (T : Nat → zf_F) (p : Nat → Nat) (r c : Nat) : Prop :=
  r ≤ c ∧ (∀ i, i < 15 → zl_Sp G 15 (zm_tr T i)) ∧ (∀ i, i < 15 → zl_Sp (zm_tr T) 15 (G i)) ∧
  (∀ i, i < r → p i < c ∧ zm_tr T i (p i) ≠ 0 ∧ ∀ i', i < i' → i' < 15 → zm_tr T i' (p i) = 0) ∧ (∀ i j, r ≤ i → i < 15 → j < c → zm_tr T i j = 0)
theorem zm_EI_0 (T : Nat → zf_F) (p : Nat → Nat) : zm_EI (zm_tr T) T p 0 0 :=
  ⟨Nat.le_refl _, fun i hi => zl_mem hi, fun i hi => zl_mem hi, fun i hi => absurd hi (Nat.not_lt_zero i), fun i j _ _ hj => absurd hj (Nat.not_lt_zero j)⟩
theorem zm_EI_none {G : Nat → zf_V} {T : Nat → zf_F} {p : Nat → Nat} {r c : Nat} (h : zm_EI G T p r c) (hz : ∀ i, r ≤ i → i < 15 → T (15 * i + c) = 0) : zm_EI G T p r (c + 1) := by
  refine ⟨by have := h.1; omega, h.2.1, h.2.2.1, fun i hi => ⟨by have := (h.2.2.2.1 i hi).1; omega, (h.2.2.2.1 i hi).2⟩, fun i j hi h15 hj => ?_⟩
  by_cases e : j = c
  · subst e
    unfold zm_tr
    by_cases hj15 : j < 15
    · rw [if_pos hj15, hz i hi h15]
    · rw [if_neg hj15]
  · exact h.2.2.2.2 i j hi h15 (by omega)
theorem zm_tr_ext {T T' : Nat → zf_F} {i i' : Nat} (h : ∀ j, j < 15 → T' (15 * i' + j) = T (15 * i + j)) : zm_tr T' i' = zm_tr T i := by
  funext j
  unfold zm_tr
  by_cases hj : j < 15
  · rw [if_pos hj, if_pos hj, h j hj]
  · rw [if_neg hj, if_neg hj]
theorem zm_sw_lt {r o i : Nat} (hr : r < 15) (ho : o < 15) (hi : i < 15) : zm_sw r o i < 15 := by
  unfold zm_sw
  by_cases h1 : i = r
  · rw [if_pos h1]; exact ho
  · rw [if_neg h1]
    by_cases h2 : i = o
    · rw [if_pos h2]; exact hr
    · rw [if_neg h2]; exact hi
theorem zm_sw_sw (r o i : Nat) : zm_sw r o (zm_sw r o i) = i := by
  unfold zm_sw
  by_cases h1 : i = r
  · rw [if_pos h1]
    by_cases h3 : o = r
    · rw [if_pos h3]; omega
    · rw [if_neg h3, if_pos rfl]; exact h1.symm
  · rw [if_neg h1]
    by_cases h2 : i = o
    · rw [if_pos h2, if_pos rfl]; exact h2.symm
    · rw [if_neg h2, if_neg h1, if_neg h2]
theorem zm_sw_ge {r o i : Nat} (ho : r ≤ o) (hi : r ≤ i) : r ≤ zm_sw r o i := by
  unfold zm_sw
  by_cases h1 : i = r
  · rw [if_pos h1]; exact ho
  · rw [if_neg h1]
    by_cases h2 : i = o
    · rw [if_pos h2]; exact Nat.le_refl _
    · rw [if_neg h2]; exact hi
theorem zm_sw_lo {r o i : Nat} (ho : r ≤ o) (hi : i < r) : zm_sw r o i = i := by
  unfold zm_sw
  rw [if_neg (by omega), if_neg (by omega)]
theorem zm_EI_sw {G : Nat → zf_V} {T T' : Nat → zf_F} {p : Nat → Nat} {r c o : Nat} (hr : r < 15) (hro : r ≤ o) (ho : o < 15) (h : zm_EI G T p r c) (hT : ∀ i j, i < 15 → j < 15 → T' (15 * i + j) = T (15 * zm_sw r o i + j)) : zm_EI G T' p r c := by
  have e : ∀ i, i < 15 → zm_tr T' i = zm_tr T (zm_sw r o i) := fun i hi => zm_tr_ext (fun j hj => hT i j hi hj)
  have e2 : ∀ i, i < 15 → zm_tr T i = zm_tr T' (zm_sw r o i) := fun i hi => by rw [e _ (zm_sw_lt hr ho hi), zm_sw_sw]
  refine ⟨h.1, fun i hi => ?_, fun i hi => ?_, fun i hi => ?_, fun i j hi h15 hj => ?_⟩
  · rw [e i hi]; exact h.2.1 _ (zm_sw_lt hr ho hi)
  · refine zl_le (fun k hk => ?_) (h.2.2.1 i hi)
    rw [e2 k hk]
    exact zl_mem (zm_sw_lt hr ho hk)
  · have q := h.2.2.2.1 i hi
    refine ⟨q.1, ?_, fun i' h1 h2 => ?_⟩
    · rw [e i (by omega), zm_sw_lo hro hi]; exact q.2.1
    · rw [e i' h2]
      refine q.2.2 _ ?_ (zm_sw_lt hr ho h2)
      by_cases z : i' < r
      · rw [zm_sw_lo hro z]; exact h1
      · exact Nat.lt_of_lt_of_le hi (zm_sw_ge hro (by omega))
  · rw [e i h15]
    exact h.2.2.2.2 _ j (zm_sw_ge hro hi) (zm_sw_lt hr ho h15) hj
theorem zm_EI_cl {G : Nat → zf_V} {T T' : Nat → zf_F} {p : Nat → Nat} {r c : Nat} {k : zf_F} (hr : r < 15) (hc : c < 15) (h : zm_EI G T p r c) (hn : T (15 * r + c) ≠ 0) (hk : T (15 * r + c) * k = 1)
    (hT : ∀ i j, i < 15 → j < 15 → T' (15 * i + j) = if i ≤ r then T (15 * i + j) else T (15 * i + j) - (T (15 * i + c) * k) * T (15 * r + j)) : zm_EI G T' (zf_u p r c) (r + 1) (c + 1) := by
  have eo : ∀ i, i ≤ r → zm_tr T' i = zm_tr T i := fun i hi => zm_tr_ext (fun j hj => by rw [hT i j (by omega) hj, if_pos hi])
  have en : ∀ i, r < i → i < 15 → zm_tr T' i = fun j => zm_tr T i j + (fun j => (-(T (15 * i + c) * k)) * zm_tr T r j) j := by
    intro i h1 h2
    funext j
    unfold zm_tr
    by_cases hj : j < 15
    · simp only [if_pos hj]
      rw [hT i j h2 hj, if_neg (by omega)]
      grind
    · simp only [if_neg hj]
      grind
  have en2 : ∀ i, r < i → i < 15 → zm_tr T i = fun j => zm_tr T' i j + (fun j => (T (15 * i + c) * k) * zm_tr T' r j) j := by
    intro i h1 h2
    funext j
    rw [en i h1 h2, eo r (Nat.le_refl _)]
    dsimp only
    grind
  have hat : ∀ i, zm_tr T i c = T (15 * i + c) := fun i => if_pos hc
  refine ⟨by have := h.1; omega, fun i hi => ?_, fun i hi => ?_, fun i hi => ?_, fun i j hi h15 hj => ?_⟩
  · by_cases z : i ≤ r
    · rw [eo i z]; exact h.2.1 i hi
    · rw [en i (by omega) hi]
      exact (zl_Sp_Sub G 15).2.1 _ _ (h.2.1 i hi) ((zl_Sp_Sub G 15).2.2 _ _ (h.2.1 r hr))
  · refine zl_le (fun i' hi' => ?_) (h.2.2.1 i hi)
    by_cases z : i' ≤ r
    · rw [← eo i' z]; exact zl_mem hi'
    · rw [en2 i' (by omega) hi']
      exact (zl_Sp_Sub (zm_tr T') 15).2.1 _ _ (zl_mem hi') ((zl_Sp_Sub (zm_tr T') 15).2.2 _ _ (zl_mem hr))
  · by_cases e : i = r
    · subst e
      rw [zf_us, eo i (Nat.le_refl _), hat]
      refine ⟨by omega, hn, fun i' h1 h2 => ?_⟩
      rw [en i' h1 h2]
      show zm_tr T i' c + (-(T (15 * i' + c) * k)) * zm_tr T i c = 0
      rw [hat, hat]
      generalize T (15 * i' + c) = x
      generalize T (15 * i + c) = y at hk
      have e1 : x + (-(x * k)) * y = x - x * (y * k) := by grind
      rw [e1, hk]
      grind
    · rw [zf_un e]
      have q := h.2.2.2.1 i (by omega)
      rw [eo i (by omega)]
      refine ⟨by omega, q.2.1, fun i' h1 h2 => ?_⟩
      by_cases z : i' ≤ r
      · rw [eo i' z]; exact q.2.2 i' h1 h2
      · rw [en i' (by omega) h2]
        show zm_tr T i' (p i) + (-(T (15 * i' + c) * k)) * zm_tr T r (p i) = 0
        rw [q.2.2 i' h1 h2, q.2.2 r (by omega) hr]
        grind
  · rw [en i (by omega) h15]
    show zm_tr T i j + (-(T (15 * i + c) * k)) * zm_tr T r j = 0
    by_cases e : j = c
    · subst e
      rw [hat, hat]
      generalize T (15 * i + j) = x
      generalize T (15 * r + j) = y at hk
      have e1 : x + (-(x * k)) * y = x - x * (y * k) := by grind
      rw [e1, hk]
      grind
    · rw [h.2.2.2.2 i j (by omega) h15 (by omega), h.2.2.2.2 r j (Nat.le_refl _) hr (by omega)]
      grind
def zm_RY (G : Nat → zf_V) (r : Nat) : Prop := ∃ T p, zm_EI G T p r 15
section
variable {sz : Nat → Nat} {st en sp yn yl yt : Nat → zf_F}
theorem zy_inverse {post : Int32 → Prop} {v : zf_F} (hv : v ≠ 0) (H : ∀ k : zf_F, v * k = 1 → post (zf_I k)) : wpY_inverse post (zf_n sz, zf_c st, zf_c en, zf_c sp, zf_c yn, zf_c yl, zf_c yt) (zf_I v) := by
  refine pk_loop (fun n i (_ : Unit) => wY_inverse_2 post (zf_I v) (zf_n sz) (zf_c st) (zf_c en) (zf_c sp) (zf_c yn) (zf_c yl) (zf_c yt) n (nI i)) (fun i _ => ∀ j, 1 ≤ j → j < i → v * zf_mk j ≠ 1) 997 1 () (by decide) (fun j h1 h2 => by omega) (fun n s hI => ?_) (fun n i s hi hI ih => ?_)
  · exfalso
    have e := zf_mul_inv hv
    have hn : zf_inv v ≠ 0 := fun z => by
      rw [z, Fin.mul_zero] at e
      exact absurd e (by decide)
    have hl := zf_lt (zf_inv v)
    have h1 : (zf_inv v).val ≠ 0 := fun z => hn (Fin.ext z)
    exact hI (zf_inv v).val (by omega) hl (by rw [zf_mk_val]; exact e)
  · have e : nI i = zf_I (zf_mk i) := congrArg nI (Nat.mod_eq_of_lt hi).symm
    have e2 : (zf_I v * nI i) - (zf_I v * nI i) / 997 * 997 = zf_I (v * zf_mk i) := by rw [e]; exact zf_rmul _ _
    refine pk_le 997 i (fun z => by omega) (fun _ => ⟨by decide, ?_⟩)
    rw [e2]
    by_cases h : v * zf_mk i = 1
    · refine br_t (by rw [h]; rfl) ?_
      rw [e]
      exact H _ h
    · refine br_f (fun z => h (zf_I_inj.mp (z.trans zf_I1.symm))) (nm_r (nI_1 i) (ih () (fun j h1 h2 => ?_)))
      by_cases ej : j = i
      · subst ej; exact h
      · exact hI j h1 (by omega)
theorem zy_pivot {post : Int32 → Prop} {r c : Nat} (hr : r ≤ 15) (hc : c < 15) (H0 : (∀ i, r ≤ i → i < 15 → yt (15 * i + c) = 0) → post (-1)) (H1 : ∀ i, r ≤ i → i < 15 → yt (15 * i + c) ≠ 0 → post (nI i)) : wpY_pivot post (zf_n sz, zf_c st, zf_c en, zf_c sp, zf_c yn, zf_c yl, zf_c yt) (nI r) (nI c) := by
  refine pk_loop (fun n i (_ : Unit) => wY_pivot_2 post (nI c) (zf_n sz) (zf_c st) (zf_c en) (zf_c sp) (zf_c yn) (zf_c yl) (zf_c yt) n (nI i)) (fun i _ => r ≤ i ∧ ∀ j, r ≤ j → j < i → yt (15 * j + c) = 0) 15 r () hr ⟨Nat.le_refl _, fun j h1 h2 => by omega⟩ (fun n s hI => ?_) (fun n i s hi hI ih => ?_)
  · exact pk_le 15 15 (fun _ => H0 hI.2) (fun z => by omega)
  · have e : zf_c yt (15 * nI i + nI c).toNatClampNeg = zf_I (yt (15 * i + c)) := zf_at yt _ (zx_k15 _ _) (by omega)
    refine pk_le 15 i (fun z => by omega) (fun _ => ⟨pk_in (15 * i + c) 225 (by omega) (zx_k15 _ _), ?_⟩)
    rw [e]
    by_cases h : yt (15 * i + c) = 0
    · refine br_t (zf_Iz.mpr h) (nm_r (nI_1 i) (ih () ⟨by omega, fun j h1 h2 => ?_⟩))
      by_cases ej : j = i
      · subst ej; exact h
      · exact hI.2 j h1 (by omega)
    · exact br_f (fun z => h (zf_Iz.mp z)) (H1 i hI.1 hi h)
theorem zy_exchange {post : SY → Prop} {r o : Nat} (hr : r < 15) (ho : o < 15) (H : ∀ T : Nat → zf_F, (∀ i j, i < 15 → j < 15 → T (15 * i + j) = yt (15 * zm_sw r o i + j)) → post (zf_n sz, zf_c st, zf_c en, zf_c sp, zf_c yn, zf_c yl, zf_c T)) : wpY_exchange post (zf_n sz, zf_c st, zf_c en, zf_c sp, zf_c yn, zf_c yl, zf_c yt) (nI r) (nI o) := by
  refine loop_0 (fun n c s => wY_exchange_2 post (nI r) (nI o) n (nI c) (zf_n sz) (zf_c st) (zf_c en) (zf_c sp) (zf_c yn) (zf_c yl) (zf_c s)) (fun c s => ∀ i j, i < 15 → j < 15 → s (15 * i + j) = if j < c then yt (15 * zm_sw r o i + j) else yt (15 * i + j)) 15 yt (fun i j _ _ => (if_neg (by omega)).symm) (fun n s hI => ?_) (fun n c s hc hI ih => ?_)
  · exact pk_le 15 15 (fun _ => H s (fun i j hi hj => by rw [hI i j hi hj, if_pos hj])) (fun z => by omega)
  · have e1 : zf_c s (15 * nI r + nI c).toNatClampNeg = zf_I (yt (15 * r + c)) := by
      rw [zf_at s _ (zx_k15 _ _) (by omega), hI r c hr hc, if_neg (by omega)]
    have e2 : zf_c s (15 * nI o + nI c).toNatClampNeg = zf_I (yt (15 * o + c)) := by
      rw [zf_at s _ (zx_k15 _ _) (by omega), hI o c ho hc, if_neg (by omega)]
    refine pk_le 15 c (fun z => by omega) (fun _ => ⟨pk_in (15 * r + c) 225 (by omega) (zx_k15 _ _), nm_r e1 ⟨pk_in (15 * o + c) 225 (by omega) (zx_k15 _ _), pk_in (15 * r + c) 225 (by omega) (zx_k15 _ _), nm_r (zf_upi s (15 * r + c) (yt (15 * o + c)) (zx_k15 _ _) (by omega) e2) ⟨pk_in (15 * o + c) 225 (by omega) (zx_k15 _ _), nm_r (zf_upi _ (15 * o + c) (yt (15 * r + c)) (zx_k15 _ _) (by omega) rfl) (nm_r (nI_1 c) (ih _ (fun i j hi hj => ?_)))⟩⟩⟩)
    by_cases hj2 : j = c
    · subst hj2
      rw [if_pos (by omega)]
      by_cases h1 : i = o
      · subst h1
        rw [zf_us]
        unfold zm_sw
        by_cases h2 : i = r
        · rw [if_pos h2, h2]
        · rw [if_neg h2, if_pos rfl]
      · rw [zf_un (by omega)]
        by_cases h2 : i = r
        · subst h2
          rw [zf_us]
          unfold zm_sw
          rw [if_pos rfl]
        · rw [zf_un (by omega), hI i j hi hj, if_neg (by omega)]
          unfold zm_sw
          rw [if_neg h2, if_neg h1]
    · rw [zf_un (by omega), zf_un (by omega), hI i j hi hj]
      by_cases h : j < c
      · rw [if_pos h, if_pos (by omega)]
      · rw [if_neg h, if_neg (by omega)]
theorem zy_clear_51 {post : SY → Prop} {J : zx_J7} {x2 x3 : Int32} {r i : Nat} {f : zf_F} (hr : r < i) (hi : i < 15)
    (H : ∀ T : Nat → zf_F, (∀ i' j, i' < 15 → j < 15 → T (15 * i' + j) = if i' = i then yt (15 * i + j) - f * yt (15 * r + j) else yt (15 * i' + j)) → J (nI (i + 1)) (zf_n sz) (zf_c st) (zf_c en) (zf_c sp) (zf_c yn) (zf_c yl) (zf_c T)) : ∃ n, wY_clear_51 post J (nI r) x2 x3 (nI i) (zf_I f) n 0 (zf_n sz) (zf_c st) (zf_c en) (zf_c sp) (zf_c yn) (zf_c yl) (zf_c yt) := by
  refine loop_0 (fun n c s => wY_clear_51 post J (nI r) x2 x3 (nI i) (zf_I f) n (nI c) (zf_n sz) (zf_c st) (zf_c en) (zf_c sp) (zf_c yn) (zf_c yl) (zf_c s)) (fun c s => ∀ i' j, i' < 15 → j < 15 → s (15 * i' + j) = if i' = i ∧ j < c then yt (15 * i + j) - f * yt (15 * r + j) else yt (15 * i' + j)) 15 yt (fun i' j _ _ => (if_neg (by omega)).symm) (fun n s hI => ?_) (fun n c s hc hI ih => ?_)
  · refine pk_le 15 15 (fun _ => nm_r (nI_1 i) (H s (fun i' j hi' hj => ?_))) (fun z => by omega)
    rw [hI i' j hi' hj]
    by_cases h : i' = i
    · rw [if_pos h, if_pos ⟨h, hj⟩]
    · rw [if_neg h, if_neg (by omega)]
  · have e1 : zf_c s (15 * nI i + nI c).toNatClampNeg = zf_I (yt (15 * i + c)) := by
      rw [zf_at s _ (zx_k15 _ _) (by omega), hI i c hi hc, if_neg (by omega)]
    have e2 : zf_c s (15 * nI r + nI c).toNatClampNeg = zf_I (yt (15 * r + c)) := by
      rw [zf_at s _ (zx_k15 _ _) (by omega), hI r c (by omega) hc, if_neg (by omega)]
    refine pk_le 15 c (fun z => by omega) (fun _ => ⟨pk_in (15 * i + c) 225 (by omega) (zx_k15 _ _), pk_in (15 * r + c) 225 (by omega) (zx_k15 _ _), by decide, pk_in (15 * i + c) 225 (by omega) (zx_k15 _ _), nm_r (zf_upi s (15 * i + c) (yt (15 * i + c) - f * yt (15 * r + c)) (zx_k15 _ _) (by omega) (by rw [e1, e2]; exact zf_fms _ _ _)) (nm_r (nI_1 c) (ih _ (fun i' j hi' hj => ?_)))⟩)
    by_cases h : i' = i ∧ j = c
    · obtain ⟨rfl, rfl⟩ := h
      rw [zf_us, if_pos ⟨rfl, by omega⟩]
    · rw [zf_un (by omega), hI i' j hi' hj]
      by_cases h2 : i' = i ∧ j < c
      · rw [if_pos h2, if_pos ⟨h2.1, by omega⟩]
      · rw [if_neg h2, if_neg (by omega)]
theorem zy_clear {post : SY → Prop} {r c : Nat} (hr : r < 15) (hc : c < 15) (hn : yt (15 * r + c) ≠ 0)
    (H : ∀ (T : Nat → zf_F) (k : zf_F), yt (15 * r + c) * k = 1 → (∀ i j, i < 15 → j < 15 → T (15 * i + j) = if i ≤ r then yt (15 * i + j) else yt (15 * i + j) - (yt (15 * i + c) * k) * yt (15 * r + j)) → post (zf_n sz, zf_c st, zf_c en, zf_c sp, zf_c yn, zf_c yl, zf_c T)) : wpY_clear post (zf_n sz, zf_c st, zf_c en, zf_c sp, zf_c yn, zf_c yl, zf_c yt) (nI r) (nI c) := by
  have e : zf_c yt (15 * nI r + nI c).toNatClampNeg = zf_I (yt (15 * r + c)) := zf_at yt _ (zx_k15 _ _) (by omega)
  refine And.intro (pk_in (15 * r + c) 225 (by omega) (zx_k15 _ _)) ?_
  rw [e]
  refine zy_inverse hn (fun k hk => nm_r (nI_1 r) ?_)
  refine pk_loop (fun n i s => wY_clear_21 post (nI r) (nI c) (zf_I k) n (nI i) (zf_n sz) (zf_c st) (zf_c en) (zf_c sp) (zf_c yn) (zf_c yl) (zf_c s)) (fun i s => r < i ∧ ∀ i' j, i' < 15 → j < 15 → s (15 * i' + j) = if i' ≤ r ∨ i ≤ i' then yt (15 * i' + j) else yt (15 * i' + j) - (yt (15 * i' + c) * k) * yt (15 * r + j)) 15 (r + 1) yt (by omega) ⟨by omega, fun i' j _ _ => (if_pos (by omega)).symm⟩ (fun n s hI => ?_) (fun n i s hi hI ih => ?_)
  · refine pk_le 15 15 (fun _ => H s k hk (fun i j h1 h2 => ?_)) (fun z => by omega)
    rw [hI.2 i j h1 h2]
    by_cases h : i ≤ r
    · rw [if_pos h, if_pos (Or.inl h)]
    · rw [if_neg h, if_neg (by omega)]
  · have e1 : zf_c s (15 * nI i + nI c).toNatClampNeg = zf_I (yt (15 * i + c)) := by
      rw [zf_at s _ (zx_k15 _ _) (by omega), hI.2 i c hi hc, if_pos (by omega)]
    refine pk_le 15 i (fun z => by omega) (fun _ => ⟨pk_in (15 * i + c) 225 (by omega) (zx_k15 _ _), by decide, nm_r (e' := zf_I (yt (15 * i + c) * k)) (by rw [e1]; exact zf_rmul _ _) ?_⟩)
    refine zy_clear_51 hI.1 hi (fun T hT => ih T ⟨by have := hI.1; omega, fun i' j h1 h2 => ?_⟩)
    rw [hT i' j h1 h2]
    by_cases h : i' = i
    · subst h
      rw [if_pos rfl, if_neg (by have := hI.1; omega), hI.2 i' j h1 h2, if_pos (by omega), hI.2 r j hr h2, if_pos (by omega)]
    · rw [if_neg h, hI.2 i' j h1 h2]
      by_cases h3 : i' ≤ r ∨ i ≤ i'
      · rw [if_pos h3, if_pos (by omega)]
      · rw [if_neg h3, if_neg (by omega)]
theorem zy_rank_86 {post : Int32 → SY → Prop} {G : Nat → zf_V} (HP : ∀ (r : Nat) (T : Nat → zf_F), zm_RY G r → post (nI r) (zf_n sz, zf_c st, zf_c en, zf_c sp, zf_c yn, zf_c yl, zf_c T)) :
    ∀ d c, c + d = 15 → ∀ (r : Nat) (T : Nat → zf_F) (p : Nat → Nat), zm_EI G T p r c → wY_rank_86 post (d + 1) (nI r) (nI c) (zf_n sz) (zf_c st) (zf_c en) (zf_c sp) (zf_c yn) (zf_c yl) (zf_c T) := by
  intro d
  induction d with
  | zero =>
    intro c hc r T p I
    have : c = 15 := by omega
    subst this
    exact pk_le 15 15 (fun _ => HP r T ⟨T, p, I⟩) (fun z => by omega)
  | succ d ih =>
    intro c hc r T p I
    have hrc := I.1
    refine pk_le 15 c (fun z => by omega) (fun _ => ?_)
    refine zy_pivot (by omega) (by omega) (fun hz => ?_) (fun o h1 h2 hn => ?_)
    · exact br_t (by decide) (nm_r (nI_1 c) (ih (c + 1) (by omega) r T p (zm_EI_none I hz)))
    · refine br_f (nI_pos (by omega)) ?_
      refine zy_exchange (by omega) h2 (fun T1 hT1 => ?_)
      have I1 := zm_EI_sw (by omega) h1 h2 I hT1
      have hn1 : T1 (15 * r + c) ≠ 0 := by
        rw [hT1 r c (by omega) (by omega)]
        unfold zm_sw
        rw [if_pos rfl]
        exact hn
      refine zy_clear (by omega) (by omega) hn1 (fun T2 k hk hT2 => ?_)
      exact nm_r (nI_1 r) (nm_r (nI_1 c) (ih (c + 1) (by omega) (r + 1) T2 _ (zm_EI_cl (by omega) (by omega) I1 hn1 hk hT2)))
/-! the table of words -/
def zm_ln (v : Nat) : Nat := if v < 2 then 0 else if v < 4 then 1 else if v < 8 then 2 else 3
def zm_ct (u v : Nat) : Nat := u * 2 ^ zm_ln v + v % 2 ^ zm_ln v
theorem zm_ln_eq {v n : Nat} (hv : v < 16) (h1 : 2 ^ n ≤ v) (h2 : v < 2 ^ (n + 1)) : n = zm_ln v := by
  have hn : n < 4 := by
    apply Classical.byContradiction
    intro z
    have : 2 ^ 4 ≤ 2 ^ n := Nat.pow_le_pow_right (by decide) (by omega)
    omega
  have : n = 0 ∨ n = 1 ∨ n = 2 ∨ n = 3 := by omega
  unfold zm_ln
  rcases this with rfl | rfl | rfl | rfl
  · rw [if_pos (by omega)]
  · rw [if_neg (by omega), if_pos (by omega)]
  · rw [if_neg (by omega), if_neg (by omega), if_pos (by omega)]
  · rw [if_neg (by omega), if_neg (by omega), if_neg (by omega)]
theorem zm_ct_I : ∀ u, u < 16 → ∀ v, v < 16 → (nI u <<< (nI (zm_ln v) &&& 31)) ||| (nI v &&& (((1 : Int32) <<< (nI (zm_ln v) &&& 31)) - 1)) = nI (zm_ct u v) := by decide +kernel
theorem zm_ct_lt : ∀ u, u < 16 → ∀ v, v < 16 → 1 ≤ u → 1 ≤ zm_ct u v ∧ zm_ct u v < 8192 := by decide +kernel
def zm_hk (st en sp : Nat → zf_F) (a i : Nat) : zf_V := fun j => if j < 15 then zm_wo st en sp a (zm_ct (i + 1) (j + 1)) else 0
theorem zy_rank_20 {post : Int32 → SY → Prop} {J : zx_J7} {a u : Nat} (ha : a < 3) (hu : u < 15) (h4 : zy_P yn) (h : ∀ j, j < 15 * u → yt j = zm_wo st en sp a (zm_ct (j / 15 + 1) (j % 15 + 1)))
    (H : ∀ yn yl yt : Nat → zf_F, zy_P yn → (∀ j, j < 15 * (u + 1) → yt j = zm_wo st en sp a (zm_ct (j / 15 + 1) (j % 15 + 1))) → J (nI (u + 1 + 1)) (zf_n sz) (zf_c st) (zf_c en) (zf_c sp) (zf_c yn) (zf_c yl) (zf_c yt)) : ∃ n, wY_rank_20 post J (nI a) (nI (u + 1)) n 1 (zf_n sz) (zf_c st) (zf_c en) (zf_c sp) (zf_c yn) (zf_c yl) (zf_c yt) := by
  refine pk_loop (fun n i (s : zf_V × zf_V × zf_V) => wY_rank_20 post J (nI a) (nI (u + 1)) n (nI i) (zf_n sz) (zf_c st) (zf_c en) (zf_c sp) (zf_c (s.1)) (zf_c (s.2.1)) (zf_c (s.2.2))) (fun i s => 1 ≤ i ∧ zy_P s.1 ∧ ∀ j, j < 15 * u + (i - 1) → s.2.2 j = zm_wo st en sp a (zm_ct (j / 15 + 1) (j % 15 + 1))) 16 1 (yn, yl, yt) (by decide) ⟨Nat.le_refl _, h4, h⟩ (fun n s hI => ?_) (fun n i s hi hI ih => ?_)
  · exact pk_le 16 16 (fun _ => nm_r (nI_1 (u + 1)) (H _ _ _ hI.2.1 (fun j hj => hI.2.2 j (by omega)))) (fun z => by omega)
  · obtain ⟨v, rfl⟩ : ∃ v, i = v + 1 := ⟨i - 1, by have := hI.1; omega⟩
    refine pk_le 16 (v + 1) (fun z => by omega) (fun _ => ?_)
    refine zy_length (by omega) (by omega) (fun n' hn' hl hu' => ?_)
    have en' := zm_ln_eq hi hl hu'
    subst en'
    have hct := zm_ct_lt (u + 1) (by omega) (v + 1) hi (by omega)
    refine nm_r (zm_ct_I (u + 1) (by omega) (v + 1) hi) ?_
    refine zy_worth ha hct.1 hct.2 hI.2.1 (fun yl2 yn2 hP2 => ?_)
    have ei : 15 * (nI (u + 1) - 1) + nI (v + 1) - 1 = nI (15 * u + v) := by
      rw [nI_pred, zx_k15]
      exact nI_pred (15 * u + v)
    refine ⟨pk_in (15 * u + v) 225 (by omega) ei, nm_r (zf_upi _ (15 * u + v) _ ei (by omega) rfl) (nm_r (nI_1 (v + 1)) (ih (yn2, yl2, zf_u s.2.2 (15 * u + v) (zm_wo st en sp a (zm_ct (u + 1) (v + 1)))) ⟨by omega, hP2, fun j hj => ?_⟩))⟩
    show zf_u s.2.2 (15 * u + v) (zm_wo st en sp a (zm_ct (u + 1) (v + 1))) j = _
    by_cases e : j = 15 * u + v
    · subst e
      rw [zf_us, show (15 * u + v) / 15 = u by omega, show (15 * u + v) % 15 = v by omega]
    · rw [zf_un e]
      exact hI.2.2 j (by omega)
theorem zy_rank_12 {post : Int32 → SY → Prop} {a : Nat} (ha : a < 3) (h4 : zy_P yn) (HP : ∀ (r : Nat) (yn yl yt : Nat → zf_F), zy_P yn → zm_RY (zm_hk st en sp a) r → post (nI r) (zf_n sz, zf_c st, zf_c en, zf_c sp, zf_c yn, zf_c yl, zf_c yt)) : ∃ n, wY_rank_12 post (nI a) n 1 (zf_n sz) (zf_c st) (zf_c en) (zf_c sp) (zf_c yn) (zf_c yl) (zf_c yt) := by
  refine pk_loop (fun n i (s : zf_V × zf_V × zf_V) => wY_rank_12 post (nI a) n (nI i) (zf_n sz) (zf_c st) (zf_c en) (zf_c sp) (zf_c (s.1)) (zf_c (s.2.1)) (zf_c (s.2.2))) (fun i s => 1 ≤ i ∧ zy_P s.1 ∧ ∀ j, j < 15 * (i - 1) → s.2.2 j = zm_wo st en sp a (zm_ct (j / 15 + 1) (j % 15 + 1))) 16 1 (yn, yl, yt) (by decide) ⟨Nat.le_refl _, h4, fun j hj => by omega⟩ (fun n s hI => ?_) (fun n i s hi hI ih => ?_)
  · refine pk_le 16 16 (fun _ => ⟨16, ?_⟩) (fun z => by omega)
    refine zy_rank_86 (G := zm_tr s.2.2) (fun r T hR => HP r _ _ T hI.2.1 ?_) 15 0 rfl 0 s.2.2 (fun _ => 0) (zm_EI_0 _ _)
    obtain ⟨T', p, h⟩ := hR
    have e : ∀ i, i < 15 → zm_tr s.2.2 i = zm_hk st en sp a i := by
      intro i hi
      funext j
      unfold zm_tr zm_hk
      by_cases hj : j < 15
      · rw [if_pos hj, if_pos hj, hI.2.2 (15 * i + j) (by omega), show (15 * i + j) / 15 = i by omega, show (15 * i + j) % 15 = j by omega]
      · rw [if_neg hj, if_neg hj]
    exact ⟨T', p, h.1, fun i hi => zl_congr e (h.2.1 i hi), fun i hi => by rw [← e i hi]; exact h.2.2.1 i hi, h.2.2.2⟩
  · obtain ⟨u, rfl⟩ : ∃ u, i = u + 1 := ⟨i - 1, by have := hI.1; omega⟩
    refine pk_le 16 (u + 1) (fun z => by omega) (fun _ => zy_rank_20 ha (by omega) hI.2.1 (fun j hj => hI.2.2 j (by omega)) (fun yn2 yl2 yt2 hP2 hT => ih (yn2, yl2, yt2) ⟨by omega, hP2, fun j hj => hT j (by omega)⟩))
end
end
section
/-! the row of a word in X's row of automata, by blocks -/
theorem zm_pa_block (sp : Nat → zf_F) (me : Nat → Nat) (l : Nat) (x : zf_V) (i q : Nat) (hq : q < 4) : ∀ k, zm_pa sp me l x k (4 * i + q) = zl_sum (fun p => x (4 * i + p) * sp (32 * me i + 16 * l + 4 * p + q)) (min (k - 4 * i) 4) := by
  intro k
  induction k with
  | zero => rw [Nat.zero_sub, Nat.zero_min]; rfl
  | succ k ih =>
    show zm_pa sp me l x k (4 * i + q) + (if (4 * i + q) / 4 = k / 4 then x k * sp (32 * me (k / 4) + 16 * l + 4 * (k % 4) + (4 * i + q) % 4) else 0) = _
    rw [ih]
    by_cases h : (4 * i + q) / 4 = k / 4
    · rw [if_pos h, show min (k + 1 - 4 * i) 4 = min (k - 4 * i) 4 + 1 by omega]
      show _ = zl_sum _ (min (k - 4 * i) 4) + _
      congr 1
      have e1 : k / 4 = i := by omega
      have e2 : k = 4 * i + (min (k - 4 * i) 4) := by omega
      have e3 : k % 4 = min (k - 4 * i) 4 := by omega
      have e4 : (4 * i + q) % 4 = q := by omega
      rw [e1, e3, e4]
      show x k * _ = x (4 * i + min (k - 4 * i) 4) * _
      rw [← e2]
    · rw [if_neg h, show min (k + 1 - 4 * i) 4 = min (k - 4 * i) 4 by omega]
      exact Fin.add_zero _
theorem zm_cf_l (sp : Nat → zf_F) (a l p q : Nat) (hl : l < 2) : zm_cf sp a l p q = sp (32 * a + 16 * l + 4 * p + q) := by
  unfold zm_cf
  by_cases h : l = 0
  · subst h
    rw [if_neg (by decide), if_pos rfl, Fin.add_zero, show 32 * a + 16 * 0 + 4 * p + q = 32 * a + 4 * p + q by omega]
  · have : l = 1 := by omega
    subst this
    rw [if_pos rfl, if_neg (by decide), Fin.zero_add]
theorem zm_go_sum (sp : Nat → zf_F) (a l : Nat) (x : zf_V) (q : Nat) (hq : q < 4) : zm_go sp a l x q = zl_sum (fun p => x p * zm_cf sp a l p q) 4 := if_pos hq
theorem zm_rw_block (st sp : Nat → zf_F) (me : Nat → Nat) (sg : Nat → zf_F) (M : Nat) : ∀ c, 1 ≤ c → ∀ i q, i < M → q < 4 → zm_rw st sp me sg M c (4 * i + q) = sg i * zm_yw st sp (me i) c q := by
  intro c
  induction c using Nat.strongRecOn with
  | ind c ih =>
    intro hc i q hi hq
    by_cases e : c = 1
    · subst e
      unfold zm_rw zm_yw
      rw [zm_vw_1, zm_vw_1]
      unfold zm_srow zm_yst
      rw [if_pos (by omega), if_pos hq, show (4 * i + q) / 4 = i by omega, show (4 * i + q) % 4 = q by omega]
      exact Fin.mul_comm _ _
    · have hl : c % 2 < 2 := Nat.mod_lt _ (by decide)
      have ih' := ih (c / 2) (by omega) (by omega)
      unfold zm_rw zm_yw at ih' ⊢
      rw [zm_vw_h _ _ (by omega), zm_vw_h (fun l x => zm_go sp (me i) l x) _ (by omega)]
      show zm_pa sp me (c % 2) _ (4 * M) (4 * i + q) = sg i * zm_go sp (me i) (c % 2) _ q
      rw [zm_pa_block _ _ _ _ _ _ hq, show min (4 * M - 4 * i) 4 = 4 by omega, zm_go_sum _ _ _ _ _ hq, ← zl_sum_mul]
      refine zl_sum_congr (fun p hp => ?_)
      rw [ih' i p hi hp, zm_cf_l _ _ _ _ _ hl]
      grind
theorem zm_ev_block (en : Nat → zf_F) (me : Nat → Nat) (x : zf_V) (s : Nat → zf_F) (y : Nat → zf_V) : ∀ M, (∀ i q, i < M → q < 4 → x (4 * i + q) = s i * y i q) → zm_ev en me x (4 * M) = zl_sum (fun i => s i * zm_fs en (me i) (y i) 4) M := by
  intro M
  induction M with
  | zero => intro _; rfl
  | succ M ih =>
    intro h
    have e : ∀ d, d ≤ 4 → zm_ev en me x (4 * M + d) = zm_ev en me x (4 * M) + s M * zm_fs en (me M) (y M) d := by
      intro d
      induction d with
      | zero => intro _; show _ = _ + s M * 0; rw [Fin.mul_zero]; exact (Fin.add_zero _).symm
      | succ d ihd =>
        intro hd
        show zm_ev en me x (4 * M + d) + x (4 * M + d) * en (4 * me ((4 * M + d) / 4) + (4 * M + d) % 4) = _ + s M * (zm_fs en (me M) (y M) d + y M d * en (4 * me M + d))
        rw [ihd (by omega), h M d (by omega) (by omega), show (4 * M + d) / 4 = M by omega, show (4 * M + d) % 4 = d by omega]
        grind
    have e4 := e 4 (Nat.le_refl _)
    rw [ih (fun i q hi hq => h i q (by omega) hq)] at e4
    exact e4
theorem zm_vl_sum (st en sp : Nat → zf_F) (me : Nat → Nat) (sg : Nat → zf_F) (M c : Nat) (hc : 1 ≤ c) : zm_vl en me M (zm_rw st sp me sg M c) = zl_sum (fun i => sg i * zm_wo st en sp (me i) c) M :=
  zm_ev_block en me _ sg (fun i => zm_yw st sp (me i) c) M (zm_rw_block st sp me sg M c hc)
theorem zm_Res_Ap {vl f g : Nat → zf_F} {N N' c c' : Nat} (hN : N ≤ N') (h : ∀ d, 1 ≤ d → (vl d = 0 ↔ f d = g d)) (hr : zm_Res vl N c) (ha : zm_Ap f g N' c') : c = c' := by
  rcases hr with ⟨rfl, h0⟩ | ⟨h1, h2, h3, h4⟩
  · rcases ha with ⟨rfl, _⟩ | ⟨k1, k2, k3, k4⟩
    · rfl
    · exact absurd ((h c' k1).mp (h0 c' k1)) k3
  · rcases ha with ⟨rfl, k0⟩ | ⟨k1, k2, k3, k4⟩
    · exact absurd ((h c h1).mpr (k0 c h1 (by omega))) h3
    · rcases Nat.lt_trichotomy c c' with z | z | z
      · exact absurd ((h c h1).mpr (k4 c h1 z)) h3
      · exact z
      · exact absurd ((h c' k1).mp (h4 c' k1 z)) k3
theorem zf_996 : zf_mk 996 = -1 := by decide
theorem zm_vl_1 (st en sp : Nat → zf_F) {me : Nat → Nat} {sg : Nat → zf_F} {a : Nat} (hm : me 0 = a) (hs : sg 0 = 1) (c : Nat) (hc : 1 ≤ c) : zm_vl en me 1 (zm_rw st sp me sg 1 c) = zm_wo st en sp a c := by
  rw [zm_vl_sum _ _ _ _ _ _ _ hc]
  show 0 + sg 0 * zm_wo st en sp (me 0) c = _
  rw [hm, hs]
  grind
theorem zm_vl_2 (st en sp : Nat → zf_F) {me : Nat → Nat} {sg : Nat → zf_F} {a a' : Nat} (hm : me 0 = a) (hm' : me 1 = a') (hs : sg 0 = 1) (hs' : sg 1 = zf_mk 996) (c : Nat) (hc : 1 ≤ c) : zm_vl en me 2 (zm_rw st sp me sg 2 c) = 0 ↔ zm_wo st en sp a c = zm_wo st en sp a' c := by
  rw [zm_vl_sum _ _ _ _ _ _ _ hc]
  show 0 + sg 0 * zm_wo st en sp (me 0) c + sg 1 * zm_wo st en sp (me 1) c = 0 ↔ _
  rw [hm, hm', hs, hs', zf_996]
  generalize zm_wo st en sp a c = x
  generalize zm_wo st en sp a' c = y
  constructor
  · intro h; grind
  · intro h; grind
theorem zm_vl_3 (st en sp : Nat → zf_F) {me : Nat → Nat} {sg : Nat → zf_F} {a a' a'' : Nat} (hm : me 0 = a) (hm' : me 1 = a') (hm'' : me 2 = a'') (hs : sg 0 = 1) (hs' : sg 1 = zf_mk 996) (hs'' : sg 2 = 1) (c : Nat) (hc : 1 ≤ c) : zm_vl en me 3 (zm_rw st sp me sg 3 c) = 0 ↔ zm_wo st en sp a c + zm_wo st en sp a'' c = zm_wo st en sp a' c := by
  rw [zm_vl_sum _ _ _ _ _ _ _ hc]
  show 0 + sg 0 * zm_wo st en sp (me 0) c + sg 1 * zm_wo st en sp (me 1) c + sg 2 * zm_wo st en sp (me 2) c = 0 ↔ _
  rw [hm, hm', hm'', hs, hs', hs'', zf_996]
  generalize zm_wo st en sp a c = x
  generalize zm_wo st en sp a' c = y
  generalize zm_wo st en sp a'' c = z
  constructor
  · intro h; grind
  · intro h; grind
/-! rank: rows against columns -/
theorem zm_rw_yw (st sp : Nat → zf_F) {me : Nat → Nat} {sg : Nat → zf_F} {a : Nat} (hm : me 0 = a) (hs : sg 0 = 1) (c : Nat) (hc : 1 ≤ c) : zm_rw st sp me sg 1 c = zm_yw st sp a c := by
  funext j
  by_cases h : j < 4
  · have := zm_rw_block st sp me sg 1 c hc 0 j (by decide) h
    rw [show 4 * 0 + j = j by omega, hm, hs, Fin.one_mul] at this
    exact this
  · rw [zm_rw_supp st sp me sg 1 c hc j (by omega)]
    exact (zm_vw_ind (P := zy_P) (zm_yst_P st a) (fun l v _ _ => zm_go_P sp a l v) c hc j (by omega)).symm
def zm_cw (sp en : Nat → zf_F) (a : Nat) : Nat → zf_V := zm_vw (zm_bk sp a) (zm_yst en a)
theorem zm_dt_tr (sp : Nat → zf_F) (a l : Nat) (hl : l < 2) (x y : zf_V) : zm_dt (zm_go sp a l x) y = zm_dt x (zm_bk sp a l y) := by
  have h := zl_sum_swap x (fun p q => zm_cf sp a l p q) y 4 4
  unfold zm_dt
  rw [zl_sum_congr (f := fun q => zm_go sp a l x q * y q) (g := fun q => zl_sum (fun p => x p * zm_cf sp a l p q) 4 * y q) (fun q hq => by rw [zm_go_sum _ _ _ _ _ hq]), ← h]
  refine zl_sum_congr (fun p hp => ?_)
  congr 1
  have e : zm_bk sp a l y p = zm_bs sp a l y p 4 := if_pos hp
  rw [e]
  show zl_sum _ 4 = zl_sum (fun q => sp (32 * a + 16 * l + 4 * p + q) * y q) 4
  exact zl_sum_congr (fun q _ => by rw [zm_cf_l _ _ _ _ _ hl])
theorem zm_wo_dt (st en sp : Nat → zf_F) (a c : Nat) : zm_wo st en sp a c = zm_dt (zm_yw st sp a c) (zm_cw sp en a 1) := by
  unfold zm_cw
  rw [zm_vw_1]
  unfold zm_dt
  show zl_sum (fun q => zm_yw st sp a c q * en (4 * a + q)) 4 = _
  refine zl_sum_congr (fun q hq => ?_)
  unfold zm_yst
  rw [if_pos hq]
theorem zm_yw_s (st sp : Nat → zf_F) (a : Nat) {c l : Nat} (hc : 1 ≤ c) (hl : l < 2) : zm_yw st sp a (2 * c + l) = zm_go sp a l (zm_yw st sp a c) := zm_vw_s (fun l x => zm_go sp a l x) _ hc hl
theorem zm_cw_s (sp en : Nat → zf_F) (a : Nat) {c l : Nat} (hc : 1 ≤ c) (hl : l < 2) : zm_bk sp a l (zm_cw sp en a c) = zm_cw sp en a (2 * c + l) := (zm_vw_s (zm_bk sp a) _ hc hl).symm
def zm_rv (v : Nat) : Nat := if v < 4 then v else if v < 8 then 2 * (2 * 1 + v % 2) + v / 2 % 2 else 2 * (2 * (2 * 1 + v % 2) + v / 2 % 2) + v / 4 % 2
theorem zm_rv_rv : ∀ v, v < 16 → zm_rv (zm_rv v) = v := by decide +kernel
theorem zm_rv_lt : ∀ v, v < 16 → 1 ≤ v → 1 ≤ zm_rv v ∧ zm_rv v < 16 := by decide +kernel
theorem zm_hank (st en sp : Nat → zf_F) (a u v : Nat) (hu : 1 ≤ u) (h1 : 1 ≤ v) (hv : v < 16) : zm_wo st en sp a (zm_ct u v) = zm_dt (zm_yw st sp a u) (zm_cw sp en a (zm_rv v)) := by
  have m0 : v % 2 < 2 := Nat.mod_lt _ (by decide)
  have m1 : v / 2 % 2 < 2 := Nat.mod_lt _ (by decide)
  have m2 : v / 4 % 2 < 2 := Nat.mod_lt _ (by decide)
  rw [zm_wo_dt]
  by_cases c1 : v < 2
  · have : v = 1 := by omega
    subst this
    have e : zm_ct u 1 = u := by show u * 2 ^ 0 + 1 % 2 ^ 0 = u; omega
    rw [e]; rfl
  · by_cases c2 : v < 4
    · have e : zm_ct u v = 2 * u + v % 2 := by
        unfold zm_ct zm_ln
        rw [if_neg c1, if_pos c2]; omega
      have er : zm_rv v = 2 * 1 + v % 2 := by
        unfold zm_rv
        rw [if_pos c2]; omega
      rw [e, er, zm_yw_s _ _ _ hu m0, zm_dt_tr _ _ _ m0, zm_cw_s _ _ _ (Nat.le_refl _) m0]
    · by_cases c3 : v < 8
      · have e : zm_ct u v = 2 * (2 * u + v / 2 % 2) + v % 2 := by
          unfold zm_ct zm_ln
          rw [if_neg c1, if_neg c2, if_pos c3]; omega
        have er : zm_rv v = 2 * (2 * 1 + v % 2) + v / 2 % 2 := by
          unfold zm_rv
          rw [if_neg c2, if_pos c3]
        rw [e, er, zm_yw_s _ _ _ (by omega) m0, zm_yw_s _ _ _ hu m1, zm_dt_tr _ _ _ m0, zm_dt_tr _ _ _ m1, zm_cw_s _ _ _ (Nat.le_refl _) m0, zm_cw_s _ _ _ (by omega) m1]
      · have e : zm_ct u v = 2 * (2 * (2 * u + v / 4 % 2) + v / 2 % 2) + v % 2 := by
          unfold zm_ct zm_ln
          rw [if_neg c1, if_neg c2, if_neg c3]; omega
        have er : zm_rv v = 2 * (2 * (2 * 1 + v % 2) + v / 2 % 2) + v / 4 % 2 := by
          unfold zm_rv
          rw [if_neg c2, if_neg c3]
        rw [e, er, zm_yw_s _ _ _ (by omega) m0, zm_yw_s _ _ _ (by omega) m1, zm_yw_s _ _ _ hu m2, zm_dt_tr _ _ _ m0, zm_dt_tr _ _ _ m1, zm_dt_tr _ _ _ m2, zm_cw_s _ _ _ (Nat.le_refl _) m0, zm_cw_s _ _ _ (by omega) m1, zm_cw_s _ _ _ (by omega) m2]
def zm_pr (C : Nat → zf_V) (n : Nat) (x : zf_V) : zf_V := fun j => if j < n then zm_dt x (C j) else 0
theorem zm_dt_Fun (y : zf_V) : zl_Fun (fun x => zm_dt x y) := by
  refine ⟨fun u v => ?_, fun c u => ?_⟩
  · show zl_sum _ 4 = zl_sum _ 4 + zl_sum _ 4
    rw [← zl_sum_add]
    exact zl_sum_congr (fun q _ => by grind)
  · show zl_sum _ 4 = c * zl_sum _ 4
    rw [← zl_sum_mul]
    exact zl_sum_congr (fun q _ => by grind)
theorem zm_dt_comm (x y : zf_V) : zm_dt x y = zm_dt y x := zl_sum_congr (fun q _ => Fin.mul_comm _ _)
theorem zm_pr_Lin (C : Nat → zf_V) (n : Nat) : zl_Lin (zm_pr C n) := by
  refine ⟨fun u v => ?_, fun c u => ?_⟩
  · funext j
    unfold zm_pr
    by_cases h : j < n
    · simp only [if_pos h]; exact (zm_dt_Fun (C j)).1 u v
    · simp only [if_neg h]; rfl
  · funext j
    unfold zm_pr
    by_cases h : j < n
    · simp only [if_pos h]; exact (zm_dt_Fun (C j)).2 c u
    · simp only [if_neg h]; exact (Fin.mul_zero _).symm
/-- vectors of a span of images are images -/
theorem zm_imgs {f : zf_V → zf_V} (hf : zl_Lin f) {R E : Nat → zf_V} {n r : Nat} (h : ∀ c, c < r → zl_Sp (fun i => f (R i)) n (E c)) : ∃ x : Nat → zf_V, ∀ c, c < r → f (x c) = E c ∧ zl_Sp R n (x c) := by
  have : ∀ c, ∃ x, c < r → f x = E c ∧ zl_Sp R n x := by
    intro c
    by_cases hc : c < r
    · obtain ⟨a, ha⟩ := zl_Sp_cmb (h c hc)
      exact ⟨zl_cmb a R n, fun _ => ⟨by rw [zl_Lin_cmb hf]; exact ha.symm, zl_cmb_Sp a R n⟩⟩
    · exact ⟨fun _ => 0, fun z => absurd z hc⟩
  obtain ⟨x, hx⟩ := Classical.axiomOfChoice this
  exact ⟨x, hx⟩
theorem zm_rank_eq (st en sp : Nat → zf_F) {a B r : Nat} {vr : Nat → zf_V} (hvr : ∀ c, 1 ≤ c → vr c = zm_yw st sp a c) (hX : zm_RX vr (zm_cw sp en a) B) (hY : zm_RY (zm_hk st en sp a) r) : B = r := by
  obtain ⟨B1, B2, r1, r2, re, pi, hB1, hB2, ⟨cd, hcd, hall⟩, ⟨cd', hcd', hall'⟩, Q, q1, q2⟩ := hX
  obtain ⟨T, p, I⟩ := hY
  have hf := zm_pr_Lin (zm_row r2) B2
  have hg := zm_pr_Lin (fun j => zm_cw sp en a (zm_rv (j + 1))) 15
  have ehk : ∀ k, zm_pr (fun j => zm_cw sp en a (zm_rv (j + 1))) 15 (zm_yw st sp a (k + 1)) = zm_hk st en sp a k := by
    intro k
    funext j
    unfold zm_pr zm_hk
    by_cases h : j < 15
    · rw [if_pos h, if_pos h, zm_hank _ _ _ _ _ _ (by omega) (by omega) (by omega)]
    · rw [if_neg h, if_neg h]
  have hpow : ∀ {i : Nat}, i < 4 → 2 ^ (i + 1) ≤ 2 ^ 4 := fun h => Nat.pow_le_pow_right (by decide) (by omega)
  have fg : ∀ v, (∀ j, zm_pr (fun j => zm_cw sp en a (zm_rv (j + 1))) 15 v j = 0) → ∀ j, zm_pr (zm_row r2) B2 v j = 0 := by
    intro v h j
    unfold zm_pr
    by_cases hj : j < B2
    · rw [if_pos hj, (hcd' j hj).1]
      have h1 := (hcd' j hj).2.1
      have h2 := (hcd' j hj).2.2
      have h3 := hpow (i := j) (by omega)
      have h4 := zm_rv_lt (cd' j) (by omega) h1
      have h5 : (if zm_rv (cd' j) - 1 < 15 then zm_dt v (zm_cw sp en a (zm_rv (zm_rv (cd' j) - 1 + 1))) else 0) = 0 := h (zm_rv (cd' j) - 1)
      rw [if_pos (by omega), show zm_rv (cd' j) - 1 + 1 = zm_rv (cd' j) by omega, zm_rv_rv _ (by omega)] at h5
      exact h5
    · rw [if_neg hj]
  have gf : ∀ v, (∀ j, zm_pr (zm_row r2) B2 v j = 0) → ∀ j, zm_pr (fun j => zm_cw sp en a (zm_rv (j + 1))) 15 v j = 0 := by
    intro v h j
    unfold zm_pr
    by_cases hj : j < 15
    · rw [if_pos hj, zm_dt_comm]
      refine zl_ker0 (zm_dt_Fun v) (fun i hi => ?_) (hall' _ (zm_rv_lt (j + 1) (by omega) (by omega)).1)
      have := h i
      unfold zm_pr at this
      rw [if_pos hi, zm_dt_comm] at this
      exact this
    · rw [if_neg hj]
  obtain ⟨x, hx⟩ := zm_imgs hf (R := zm_row r1) (n := B1) (E := zm_row re) (r := B) (fun c hc => q1 c hc)
  obtain ⟨y, hy⟩ := zm_imgs hg (R := fun k => zm_yw st sp a (k + 1)) (n := 15) (E := zm_tr T) (r := 15) (fun c hc => zl_congr (fun i _ => (ehk i).symm) (I.2.1 c hc))
  have hrY : r ≤ 15 := I.1
  have hz : ∀ v, zl_Sp (zm_tr T) 15 v → zl_Sp (fun i => zm_pr (fun j => zm_cw sp en a (zm_rv (j + 1))) 15 (y i)) r v := by
    intro v hv
    refine zl_le (fun i hi => ?_) hv
    by_cases hir : i < r
    · rw [← (hy i hi).1]
      exact zl_mem (e := fun i => zm_pr (fun j => zm_cw sp en a (zm_rv (j + 1))) 15 (y i)) hir
    · have : zm_tr T i = fun _ => 0 := by
        funext j
        by_cases hj : j < 15
        · exact I.2.2.2.2 i j (by omega) hi hj
        · exact if_neg hj
      rw [this]
      exact (zl_Sp_Sub _ _).1
  apply Nat.le_antisymm
  · refine zl_rank hf hg fg (x := x) (y := y) (p := pi) (fun b hb => ?_) (fun b hb => ?_)
    · have q := zm_Q_ech Q b hb
      refine ⟨by show zm_pr (zm_row r2) B2 (x b) (pi b) ≠ 0; rw [(hx b hb).1]; exact q.1, fun b' h1 h2 => ?_⟩
      show zm_pr (zm_row r2) B2 (x b') (pi b) = 0
      rw [(hx b' h2).1]
      exact q.2 b' h1 h2
    · refine hz _ (zl_map hg (fun i hi => ?_) (hx b hb).2)
      have h1 := (hcd i hi).2.1
      have h2 := (hcd i hi).2.2
      have h3 := hpow (i := i) (by omega)
      rw [(hcd i hi).1, hvr _ h1, show cd i = (cd i - 1) + 1 by omega, ehk]
      exact I.2.2.1 _ (by omega)
  · refine zl_rank hg hf gf (x := y) (y := x) (p := p) (fun i hi => ?_) (fun i hi => ?_)
    · have q := I.2.2.2.1 i hi
      refine ⟨by show zm_pr _ 15 (y i) (p i) ≠ 0; rw [(hy i (by omega)).1]; exact q.2.1, fun b' h1 h2 => ?_⟩
      show zm_pr _ 15 (y b') (p i) = 0
      rw [(hy b' (by omega)).1]
      exact q.2.2 b' h1 (by omega)
    · have key : ∀ v, zl_Sp (zm_row re) B v → zl_Sp (fun i => zm_pr (zm_row r2) B2 (x i)) B v := fun v hv => zl_congr (fun c hc => ((hx c hc).1).symm) hv
      refine key _ (zl_map hf (e := zm_row r1) (n := B1) (fun k hk => q2 k hk) ?_)
      refine zl_le (fun k hk => ?_) (hy i (by omega)).2
      rw [← hvr _ (by omega)]
      exact hall _ (by omega)
end
section
theorem zm_pair {α β : Type} {a a' : α} {b b' : β} (h : a = a') (h' : b = b') : (a, b) = (a', b') := by rw [h, h']
/-! blocks of an array, filled cell by cell -/
def zm_pw (N a : Nat) (P : Nat → Bool) (v f : Nat → zf_F) : Nat → zf_F := fun j => if j / N = a ∧ P (j % N) = true then v (j % N) else f j
theorem zm_dm {N a r : Nat} (hr : r < N) : (N * a + r) / N = a ∧ (N * a + r) % N = r := by
  have hN : 0 < N := by omega
  refine ⟨?_, ?_⟩
  · rw [Nat.mul_add_div hN, Nat.div_eq_of_lt hr, Nat.add_zero]
  · rw [Nat.mul_add_mod, Nat.mod_eq_of_lt hr]
theorem zm_pw_set {N a r : Nat} {P P' : Nat → Bool} {v f : Nat → zf_F} (hr : r < N) (hP : ∀ k, k < N → (P' k = true ↔ (P k = true ∨ k = r))) {x : zf_F} (hx : x = v r) : zf_u (zm_pw N a P v f) (N * a + r) x = zm_pw N a P' v f := by
  have hd := zm_dm (a := a) hr
  funext j
  unfold zm_pw
  by_cases h : j = N * a + r
  · subst h
    rw [zf_us, hd.1, hd.2, if_pos ⟨rfl, (hP r hr).mpr (Or.inr rfl)⟩, hx]
  · rw [zf_un h]
    have hN : 0 < N := by omega
    have hm := Nat.mod_lt j hN
    by_cases h1 : j / N = a
    · have hne : j % N ≠ r := fun z => h (by have := Nat.div_add_mod j N; rw [h1, z] at this; exact this.symm)
      by_cases h2 : P (j % N) = true
      · rw [if_pos ⟨h1, h2⟩, if_pos ⟨h1, (hP _ hm).mpr (Or.inl h2)⟩]
      · rw [if_neg (fun z => h2 z.2), if_neg (fun z => ((hP _ hm).mp z.2).elim h2 hne)]
    · rw [if_neg (fun z => h1 z.1), if_neg (fun z => h1 z.1)]
theorem zm_pw_same {N a : Nat} {P P' : Nat → Bool} {v f : Nat → zf_F} (hN : 0 < N) (hP : ∀ k, k < N → (P' k = true ↔ P k = true)) : zm_pw N a P v f = zm_pw N a P' v f := by
  funext j
  unfold zm_pw
  have hm := Nat.mod_lt j hN
  by_cases h1 : j / N = a ∧ P (j % N) = true
  · rw [if_pos h1, if_pos ⟨h1.1, (hP _ hm).mpr h1.2⟩]
  · rw [if_neg h1, if_neg (fun z => h1 ⟨z.1, (hP _ hm).mp z.2⟩)]
theorem zm_pw_val {N a : Nat} {P : Nat → Bool} {v v' f : Nat → zf_F} (hN : 0 < N) (hv : ∀ k, k < N → P k = true → v k = v' k) : zm_pw N a P v f = zm_pw N a P v' f := by
  funext j
  unfold zm_pw
  have hm := Nat.mod_lt j hN
  by_cases h1 : j / N = a ∧ P (j % N) = true
  · rw [if_pos h1, if_pos h1, hv _ hm h1.2]
  · rw [if_neg h1, if_neg h1]
theorem zm_pw_0 {N a : Nat} {P : Nat → Bool} {v f : Nat → zf_F} (hN : 0 < N) (hP : ∀ k, k < N → ¬ P k = true) : f = zm_pw N a P v f := by
  funext j
  exact (if_neg (fun z => hP _ (Nat.mod_lt j hN) z.2)).symm
theorem zm_pw_at {N a c r : Nat} {P : Nat → Bool} {v f : Nat → zf_F} (hr : r < N) (h : c ≠ a ∨ ¬ P r = true) : zm_pw N a P v f (N * c + r) = f (N * c + r) := by
  have hd := zm_dm (a := c) hr
  unfold zm_pw
  rw [hd.1, hd.2]
  exact if_neg (fun z => h.elim (fun y => y z.1) (fun y => y z.2))
theorem zm_pw_in {N a r : Nat} {P : Nat → Bool} {v f : Nat → zf_F} (hr : r < N) : zm_pw N a P v f (N * a + r) = if P r = true then v r else f (N * a + r) := by
  have hd := zm_dm (a := a) hr
  unfold zm_pw
  rw [hd.1, hd.2]
  by_cases h : P r = true
  · rw [if_pos ⟨rfl, h⟩, if_pos h]
  · rw [if_neg (fun z => h z.2), if_neg h]
theorem zf_upw {N a r : Nat} {P P' : Nat → Bool} {v f : Nat → zf_F} (hr : r < N) (hP : ∀ k, k < N → (P' k = true ↔ (P k = true ∨ k = r))) {i y : Int32} (hi : i = nI (N * a + r)) (hk : N * a + r < 2147483648) (hy : y = zf_I (v r)) : upd (zf_c (zm_pw N a P v f)) i.toNatClampNeg y = zf_c (zm_pw N a P' v f) := by
  rw [zf_upi _ (N * a + r) (v r) hi hk hy, zm_pw_set hr hP rfl]
section
variable {m w b : Int32} {sz : Nat → Nat} {st en sp : Nat → zf_F} {me : Nat → Nat} {sg ro : Nat → zf_F} {co : Nat → Nat} {re : Nat → zf_F} {pi : Nat → Nat} {nw nx ke : Nat → zf_F} {yn yl yt : Nat → zf_F}
/-! size -/
def zm_zr (N a : Nat) (f : Nat → zf_F) : Nat → zf_F := zm_pw N a (fun _ => true) (fun _ => 0) f
theorem zx_size_78 {post : Int32 → SX → Prop} {a : Nat} {x3 : Int32} (ha : a < 3) (H : post x3 (m, w, b, zf_n sz, zf_c st, zf_c en, zf_c (zm_zr 32 a sp), zf_n me, zf_c sg, zf_c ro, zf_n co, zf_c re, zf_n pi, zf_c nw, zf_c nx, zf_c ke)) : ∃ n, wX_size_78 post (nI a) x3 m w b n 0 (zf_n sz) (zf_c st) (zf_c en) (zf_c sp) (zf_n me) (zf_c sg) (zf_c ro) (zf_n co) (zf_c re) (zf_n pi) (zf_c nw) (zf_c nx) (zf_c ke) := by
  refine loop_0 (fun n i s => wX_size_78 post (nI a) x3 m w b n (nI i) (zf_n sz) (zf_c st) (zf_c en) (zf_c s) (zf_n me) (zf_c sg) (zf_c ro) (zf_n co) (zf_c re) (zf_n pi) (zf_c nw) (zf_c nx) (zf_c ke)) (fun i s => s = zm_pw 32 a (fun k => decide (k < i)) (fun _ => 0) sp) 32 sp (zm_pw_0 (by decide) (fun k _ => by simp)) (fun n s hI => ?_) (fun n i s hi hI ih => ?_)
  · have e : s = zm_zr 32 a sp := hI.trans (zm_pw_same (by decide) (fun k hk => by simp [hk]))
    subst e
    exact pk_le 32 32 (fun _ => H) (fun z => by omega)
  · subst hI
    exact pk_le 32 i (fun z => by omega) (fun _ => ⟨pk_in (32 * a + i) 96 (by omega) (zx_k32 _ _), nm_r (zf_upw (P' := fun k => decide (k < i + 1)) hi (fun k hk => by simp only [decide_eq_true_eq]; omega) (zx_k32 _ _) (by omega) rfl) (nm_r (nI_1 i) (ih _ rfl))⟩)
theorem zx_size_39 {post : Int32 → SX → Prop} {a : Nat} {x3 : Int32} (ha : a < 3) (H : post x3 (m, w, b, zf_n sz, zf_c (zm_zr 4 a st), zf_c (zm_zr 4 a en), zf_c (zm_zr 32 a sp), zf_n me, zf_c sg, zf_c ro, zf_n co, zf_c re, zf_n pi, zf_c nw, zf_c nx, zf_c ke)) : ∃ n, wX_size_39 post (nI a) x3 m w b n 0 (zf_n sz) (zf_c st) (zf_c en) (zf_c sp) (zf_n me) (zf_c sg) (zf_c ro) (zf_n co) (zf_c re) (zf_n pi) (zf_c nw) (zf_c nx) (zf_c ke) := by
  refine loop_0 (fun n i (s : (Nat → zf_F) × (Nat → zf_F)) => wX_size_39 post (nI a) x3 m w b n (nI i) (zf_n sz) (zf_c (s.1)) (zf_c (s.2)) (zf_c sp) (zf_n me) (zf_c sg) (zf_c ro) (zf_n co) (zf_c re) (zf_n pi) (zf_c nw) (zf_c nx) (zf_c ke)) (fun i s => s = (zm_pw 4 a (fun k => decide (k < i)) (fun _ => 0) st, zm_pw 4 a (fun k => decide (k < i)) (fun _ => 0) en)) 4 (st, en) (zm_pair (zm_pw_0 (by decide) (fun k _ => by simp)) (zm_pw_0 (by decide) (fun k _ => by simp))) (fun n s hI => ?_) (fun n i s hi hI ih => ?_)
  · have e : s = (zm_zr 4 a st, zm_zr 4 a en) := hI.trans (zm_pair (zm_pw_same (by decide) (fun k hk => by simp [hk])) (zm_pw_same (by decide) (fun k hk => by simp [hk])))
    subst e
    exact pk_le 4 4 (fun _ => zx_size_78 ha H) (fun z => by omega)
  · subst hI
    refine pk_le 4 i (fun z => by omega) (fun _ => ⟨pk_in (4 * a + i) 12 (by omega) (zx_k4 _ _), nm_r (zf_upw (P' := fun k => decide (k < i + 1)) hi (fun k hk => by simp only [decide_eq_true_eq]; omega) (zx_k4 _ _) (by omega) rfl) ⟨pk_in (4 * a + i) 12 (by omega) (zx_k4 _ _), nm_r (zf_upw (P' := fun k => decide (k < i + 1)) hi (fun k hk => by simp only [decide_eq_true_eq]; omega) (zx_k4 _ _) (by omega) rfl) (nm_r (nI_1 i) (ih (_, _) rfl))⟩⟩)
theorem zx_size {post : Int32 → SX → Prop} {a n : Nat} (ha : a < 3) (h1 : 1 ≤ n) (h4 : n ≤ 4) (H : post (nI (sz a)) (m, w, b, zf_n (zf_u sz a n), zf_c (zm_zr 4 a st), zf_c (zm_zr 4 a en), zf_c (zm_zr 32 a sp), zf_n me, zf_c sg, zf_c ro, zf_n co, zf_c re, zf_n pi, zf_c nw, zf_c nx, zf_c ke)) : wpX_size post (m, w, b, zf_n sz, zf_c st, zf_c en, zf_c sp, zf_n me, zf_c sg, zf_c ro, zf_n co, zf_c re, zf_n pi, zf_c nw, zf_c nx, zf_c ke) (nI a) (nI n) := by
  unfold wpX_size
  refine zx_good ha (br_f (by decide) (pk_lt n 1 (fun z => by omega) (fun _ => pk_le n 4 (fun _ => ⟨pk_in a 3 ha, nm_r (zf_atn sz a rfl (by omega)) ⟨pk_in a 3 ha, nm_r (zf_upni sz a n rfl (by omega) rfl) ?_⟩⟩) (fun z => by omega))))
  exact zx_size_39 ha H
theorem zy_size_79 {post : Int32 → SY → Prop} {a : Nat} {x3 : Int32} (ha : a < 3) (H : post x3 (zf_n sz, zf_c st, zf_c en, zf_c (zm_zr 32 a sp), zf_c yn, zf_c yl, zf_c yt)) : ∃ n, wY_size_79 post (nI a) x3 n 0 (zf_n sz) (zf_c st) (zf_c en) (zf_c sp) (zf_c yn) (zf_c yl) (zf_c yt) := by
  refine loop_0 (fun n i s => wY_size_79 post (nI a) x3 n (nI i) (zf_n sz) (zf_c st) (zf_c en) (zf_c s) (zf_c yn) (zf_c yl) (zf_c yt)) (fun i s => s = zm_pw 32 a (fun k => decide (k < i)) (fun _ => 0) sp) 32 sp (zm_pw_0 (by decide) (fun k _ => by simp)) (fun n s hI => ?_) (fun n i s hi hI ih => ?_)
  · have e : s = zm_zr 32 a sp := hI.trans (zm_pw_same (by decide) (fun k hk => by simp [hk]))
    subst e
    exact pk_le 32 32 (fun _ => H) (fun z => by omega)
  · subst hI
    exact pk_le 32 i (fun z => by omega) (fun _ => ⟨pk_in (32 * a + i) 96 (by omega) (zx_k32 _ _), nm_r (zf_upw (P' := fun k => decide (k < i + 1)) hi (fun k hk => by simp only [decide_eq_true_eq]; omega) (zx_k32 _ _) (by omega) rfl) (nm_r (nI_1 i) (ih _ rfl))⟩)
theorem zy_size_40 {post : Int32 → SY → Prop} {a : Nat} {x3 : Int32} (ha : a < 3) (H : post x3 (zf_n sz, zf_c (zm_zr 4 a st), zf_c (zm_zr 4 a en), zf_c (zm_zr 32 a sp), zf_c yn, zf_c yl, zf_c yt)) : ∃ n, wY_size_40 post (nI a) x3 n 0 (zf_n sz) (zf_c st) (zf_c en) (zf_c sp) (zf_c yn) (zf_c yl) (zf_c yt) := by
  refine loop_0 (fun n i (s : (Nat → zf_F) × (Nat → zf_F)) => wY_size_40 post (nI a) x3 n (nI i) (zf_n sz) (zf_c (s.1)) (zf_c (s.2)) (zf_c sp) (zf_c yn) (zf_c yl) (zf_c yt)) (fun i s => s = (zm_pw 4 a (fun k => decide (k < i)) (fun _ => 0) st, zm_pw 4 a (fun k => decide (k < i)) (fun _ => 0) en)) 4 (st, en) (zm_pair (zm_pw_0 (by decide) (fun k _ => by simp)) (zm_pw_0 (by decide) (fun k _ => by simp))) (fun n s hI => ?_) (fun n i s hi hI ih => ?_)
  · have e : s = (zm_zr 4 a st, zm_zr 4 a en) := hI.trans (zm_pair (zm_pw_same (by decide) (fun k hk => by simp [hk])) (zm_pw_same (by decide) (fun k hk => by simp [hk])))
    subst e
    exact pk_le 4 4 (fun _ => zy_size_79 ha H) (fun z => by omega)
  · subst hI
    refine pk_le 4 i (fun z => by omega) (fun _ => ⟨pk_in (4 * a + i) 12 (by omega) (zx_k4 _ _), nm_r (zf_upw (P' := fun k => decide (k < i + 1)) hi (fun k hk => by simp only [decide_eq_true_eq]; omega) (zx_k4 _ _) (by omega) rfl) ⟨pk_in (4 * a + i) 12 (by omega) (zx_k4 _ _), nm_r (zf_upw (P' := fun k => decide (k < i + 1)) hi (fun k hk => by simp only [decide_eq_true_eq]; omega) (zx_k4 _ _) (by omega) rfl) (nm_r (nI_1 i) (ih (_, _) rfl))⟩⟩)
theorem zy_size {post : Int32 → SY → Prop} {a n : Nat} (ha : a < 3) (h1 : 1 ≤ n) (h4 : n ≤ 4) (H : post (nI (sz a)) (zf_n (zf_u sz a n), zf_c (zm_zr 4 a st), zf_c (zm_zr 4 a en), zf_c (zm_zr 32 a sp), zf_c yn, zf_c yl, zf_c yt)) : wpY_size post (zf_n sz, zf_c st, zf_c en, zf_c sp, zf_c yn, zf_c yl, zf_c yt) (nI a) (nI n) := by
  unfold wpY_size
  refine zy_good ha (br_t rfl (pk_lt n 1 (fun z => by omega) (fun _ => pk_le n 4 (fun _ => ⟨pk_in a 3 ha, nm_r (zf_atn sz a rfl (by omega)) ⟨pk_in a 3 ha, nm_r (zf_upni sz a n rfl (by omega) rfl) ?_⟩⟩) (fun z => by omega))))
  exact zy_size_40 ha H
/-! scale -/
def zm_cp (N a c : Nat) (f : Nat → zf_F) : Nat → zf_F := zm_pw N a (fun _ => true) (fun k => f (N * c + k)) f
def zm_cm (a c : Nat) (y : zf_F) (f : Nat → zf_F) : Nat → zf_F := zm_pw 4 a (fun _ => true) (fun k => f (4 * c + k) * y) f
theorem zx_scale_103 {post : Int32 → SX → Prop} {a c : Nat} (ha : a < 3) (hc : c < 3) (H : post 0 (m, w, b, zf_n sz, zf_c st, zf_c en, zf_c (zm_cp 32 a c sp), zf_n me, zf_c sg, zf_c ro, zf_n co, zf_c re, zf_n pi, zf_c nw, zf_c nx, zf_c ke)) : ∃ n, wX_scale_103 post (nI a) (nI c) m w b n 0 (zf_n sz) (zf_c st) (zf_c en) (zf_c sp) (zf_n me) (zf_c sg) (zf_c ro) (zf_n co) (zf_c re) (zf_n pi) (zf_c nw) (zf_c nx) (zf_c ke) := by
  refine loop_0 (fun n i s => wX_scale_103 post (nI a) (nI c) m w b n (nI i) (zf_n sz) (zf_c st) (zf_c en) (zf_c s) (zf_n me) (zf_c sg) (zf_c ro) (zf_n co) (zf_c re) (zf_n pi) (zf_c nw) (zf_c nx) (zf_c ke)) (fun i s => s = zm_pw 32 a (fun k => decide (k < i)) (fun k => sp (32 * c + k)) sp) 32 sp (zm_pw_0 (by decide) (fun k _ => by simp)) (fun n s hI => ?_) (fun n i s hi hI ih => ?_)
  · have e : s = zm_cp 32 a c sp := hI.trans (zm_pw_same (by decide) (fun k hk => by simp [hk]))
    subst e
    exact pk_le 32 32 (fun _ => H) (fun z => by omega)
  · subst hI
    have e : zf_c (zm_pw 32 a (fun k => decide (k < i)) (fun k => sp (32 * c + k)) sp) (32 * nI c + nI i).toNatClampNeg = zf_I (sp (32 * c + i)) := by
      rw [zf_at _ (32 * c + i) (zx_k32 _ _) (by omega), zm_pw_at hi (Or.inr (by simp))]
    exact pk_le 32 i (fun z => by omega) (fun _ => ⟨pk_in (32 * c + i) 96 (by omega) (zx_k32 _ _), pk_in (32 * a + i) 96 (by omega) (zx_k32 _ _), nm_r (zf_upw (P' := fun k => decide (k < i + 1)) hi (fun k hk => by simp only [decide_eq_true_eq]; omega) (zx_k32 _ _) (by omega) e) (nm_r (nI_1 i) (ih _ rfl))⟩)
theorem zx_scale_37 {post : Int32 → SX → Prop} {a c : Nat} {y : zf_F} (ha : a < 3) (hc : c < 3) (H : post 0 (m, w, b, zf_n sz, zf_c (zm_cm a c y st), zf_c (zm_cp 4 a c en), zf_c (zm_cp 32 a c sp), zf_n me, zf_c sg, zf_c ro, zf_n co, zf_c re, zf_n pi, zf_c nw, zf_c nx, zf_c ke)) : ∃ n, wX_scale_37 post (nI a) (nI c) (zf_I y) m w b n 0 (zf_n sz) (zf_c st) (zf_c en) (zf_c sp) (zf_n me) (zf_c sg) (zf_c ro) (zf_n co) (zf_c re) (zf_n pi) (zf_c nw) (zf_c nx) (zf_c ke) := by
  refine loop_0 (fun n i (s : (Nat → zf_F) × (Nat → zf_F)) => wX_scale_37 post (nI a) (nI c) (zf_I y) m w b n (nI i) (zf_n sz) (zf_c (s.1)) (zf_c (s.2)) (zf_c sp) (zf_n me) (zf_c sg) (zf_c ro) (zf_n co) (zf_c re) (zf_n pi) (zf_c nw) (zf_c nx) (zf_c ke)) (fun i s => s = (zm_pw 4 a (fun k => decide (k < i)) (fun k => st (4 * c + k) * y) st, zm_pw 4 a (fun k => decide (k < i)) (fun k => en (4 * c + k)) en)) 4 (st, en) (zm_pair (zm_pw_0 (by decide) (fun k _ => by simp)) (zm_pw_0 (by decide) (fun k _ => by simp))) (fun n s hI => ?_) (fun n i s hi hI ih => ?_)
  · have e : s = (zm_cm a c y st, zm_cp 4 a c en) := hI.trans (zm_pair (zm_pw_same (by decide) (fun k hk => by simp [hk])) (zm_pw_same (by decide) (fun k hk => by simp [hk])))
    subst e
    exact pk_le 4 4 (fun _ => zx_scale_103 ha hc H) (fun z => by omega)
  · subst hI
    have e1 : zf_c (zm_pw 4 a (fun k => decide (k < i)) (fun k => st (4 * c + k) * y) st) (4 * nI c + nI i).toNatClampNeg = zf_I (st (4 * c + i)) := by
      rw [zf_at _ (4 * c + i) (zx_k4 _ _) (by omega), zm_pw_at hi (Or.inr (by simp))]
    have e2 : zf_c (zm_pw 4 a (fun k => decide (k < i)) (fun k => en (4 * c + k)) en) (4 * nI c + nI i).toNatClampNeg = zf_I (en (4 * c + i)) := by
      rw [zf_at _ (4 * c + i) (zx_k4 _ _) (by omega), zm_pw_at hi (Or.inr (by simp))]
    refine pk_le 4 i (fun z => by omega) (fun _ => ⟨pk_in (4 * c + i) 12 (by omega) (zx_k4 _ _), by decide, pk_in (4 * a + i) 12 (by omega) (zx_k4 _ _), nm_r (zf_upw (P' := fun k => decide (k < i + 1)) hi (fun k hk => by simp only [decide_eq_true_eq]; omega) (zx_k4 _ _) (by omega) (by rw [e1]; exact zf_rmul _ _)) ⟨pk_in (4 * c + i) 12 (by omega) (zx_k4 _ _), pk_in (4 * a + i) 12 (by omega) (zx_k4 _ _), nm_r (zf_upw (P' := fun k => decide (k < i + 1)) hi (fun k hk => by simp only [decide_eq_true_eq]; omega) (zx_k4 _ _) (by omega) e2) (nm_r (nI_1 i) (ih (_, _) rfl))⟩⟩)
theorem zx_scale {post : Int32 → SX → Prop} {a c : Nat} (v : Int32) (ha : a < 3) (hc : c < 3) (H : post 0 (m, w, b, zf_n (zf_u sz a (sz c)), zf_c (zm_cm a c (zf_red v) st), zf_c (zm_cp 4 a c en), zf_c (zm_cp 32 a c sp), zf_n me, zf_c sg, zf_c ro, zf_n co, zf_c re, zf_n pi, zf_c nw, zf_c nx, zf_c ke)) : wpX_scale post (m, w, b, zf_n sz, zf_c st, zf_c en, zf_c sp, zf_n me, zf_c sg, zf_c ro, zf_n co, zf_c re, zf_n pi, zf_c nw, zf_c nx, zf_c ke) (nI a) (nI c) v := by
  unfold wpX_scale
  refine zx_good ha (br_f (by decide) (zx_good hc (br_f (by decide) (zx_modulo v ⟨pk_in c 3 hc, pk_in a 3 ha, nm_r (zf_upni sz a (sz c) rfl (by omega) (zf_atn sz c rfl (by omega))) ?_⟩))))
  exact zx_scale_37 ha hc H
theorem zy_scale_106 {post : Int32 → SY → Prop} {a c : Nat} (ha : a < 3) (hc : c < 3) (H : post 0 (zf_n sz, zf_c st, zf_c en, zf_c (zm_cp 32 a c sp), zf_c yn, zf_c yl, zf_c yt)) : ∃ n, wY_scale_106 post (nI a) (nI c) n 0 (zf_n sz) (zf_c st) (zf_c en) (zf_c sp) (zf_c yn) (zf_c yl) (zf_c yt) := by
  refine loop_0 (fun n i s => wY_scale_106 post (nI a) (nI c) n (nI i) (zf_n sz) (zf_c st) (zf_c en) (zf_c s) (zf_c yn) (zf_c yl) (zf_c yt)) (fun i s => s = zm_pw 32 a (fun k => decide (k < i)) (fun k => sp (32 * c + k)) sp) 32 sp (zm_pw_0 (by decide) (fun k _ => by simp)) (fun n s hI => ?_) (fun n i s hi hI ih => ?_)
  · have e : s = zm_cp 32 a c sp := hI.trans (zm_pw_same (by decide) (fun k hk => by simp [hk]))
    subst e
    exact pk_le 32 32 (fun _ => H) (fun z => by omega)
  · subst hI
    have e : zf_c (zm_pw 32 a (fun k => decide (k < i)) (fun k => sp (32 * c + k)) sp) (32 * nI c + nI i).toNatClampNeg = zf_I (sp (32 * c + i)) := by
      rw [zf_at _ (32 * c + i) (zx_k32 _ _) (by omega), zm_pw_at hi (Or.inr (by simp))]
    exact pk_le 32 i (fun z => by omega) (fun _ => ⟨pk_in (32 * c + i) 96 (by omega) (zx_k32 _ _), pk_in (32 * a + i) 96 (by omega) (zx_k32 _ _), nm_r (zf_upw (P' := fun k => decide (k < i + 1)) hi (fun k hk => by simp only [decide_eq_true_eq]; omega) (zx_k32 _ _) (by omega) e) (nm_r (nI_1 i) (ih _ rfl))⟩)
theorem zy_scale_40 {post : Int32 → SY → Prop} {a c : Nat} {y : zf_F} (ha : a < 3) (hc : c < 3) (H : post 0 (zf_n sz, zf_c (zm_cm a c y st), zf_c (zm_cp 4 a c en), zf_c (zm_cp 32 a c sp), zf_c yn, zf_c yl, zf_c yt)) : ∃ n, wY_scale_40 post (nI a) (nI c) (zf_I y) n 0 (zf_n sz) (zf_c st) (zf_c en) (zf_c sp) (zf_c yn) (zf_c yl) (zf_c yt) := by
  refine loop_0 (fun n i (s : (Nat → zf_F) × (Nat → zf_F)) => wY_scale_40 post (nI a) (nI c) (zf_I y) n (nI i) (zf_n sz) (zf_c (s.1)) (zf_c (s.2)) (zf_c sp) (zf_c yn) (zf_c yl) (zf_c yt)) (fun i s => s = (zm_pw 4 a (fun k => decide (k < i)) (fun k => st (4 * c + k) * y) st, zm_pw 4 a (fun k => decide (k < i)) (fun k => en (4 * c + k)) en)) 4 (st, en) (zm_pair (zm_pw_0 (by decide) (fun k _ => by simp)) (zm_pw_0 (by decide) (fun k _ => by simp))) (fun n s hI => ?_) (fun n i s hi hI ih => ?_)
  · have e : s = (zm_cm a c y st, zm_cp 4 a c en) := hI.trans (zm_pair (zm_pw_same (by decide) (fun k hk => by simp [hk])) (zm_pw_same (by decide) (fun k hk => by simp [hk])))
    subst e
    exact pk_le 4 4 (fun _ => zy_scale_106 ha hc H) (fun z => by omega)
  · subst hI
    have e1 : zf_c (zm_pw 4 a (fun k => decide (k < i)) (fun k => st (4 * c + k) * y) st) (4 * nI c + nI i).toNatClampNeg = zf_I (st (4 * c + i)) := by
      rw [zf_at _ (4 * c + i) (zx_k4 _ _) (by omega), zm_pw_at hi (Or.inr (by simp))]
    have e2 : zf_c (zm_pw 4 a (fun k => decide (k < i)) (fun k => en (4 * c + k)) en) (4 * nI c + nI i).toNatClampNeg = zf_I (en (4 * c + i)) := by
      rw [zf_at _ (4 * c + i) (zx_k4 _ _) (by omega), zm_pw_at hi (Or.inr (by simp))]
    refine pk_le 4 i (fun z => by omega) (fun _ => ⟨pk_in (4 * c + i) 12 (by omega) (zx_k4 _ _), by decide, pk_in (4 * a + i) 12 (by omega) (zx_k4 _ _), nm_r (zf_upw (P' := fun k => decide (k < i + 1)) hi (fun k hk => by simp only [decide_eq_true_eq]; omega) (zx_k4 _ _) (by omega) (by rw [e1]; exact zf_rmul _ _)) ⟨pk_in (4 * c + i) 12 (by omega) (zx_k4 _ _), pk_in (4 * a + i) 12 (by omega) (zx_k4 _ _), nm_r (zf_upw (P' := fun k => decide (k < i + 1)) hi (fun k hk => by simp only [decide_eq_true_eq]; omega) (zx_k4 _ _) (by omega) e2) (nm_r (nI_1 i) (ih (_, _) rfl))⟩⟩)
theorem zy_scale {post : Int32 → SY → Prop} {a c : Nat} (v : Int32) (ha : a < 3) (hc : c < 3) (H : post 0 (zf_n (zf_u sz a (sz c)), zf_c (zm_cm a c (zf_red v) st), zf_c (zm_cp 4 a c en), zf_c (zm_cp 32 a c sp), zf_c yn, zf_c yl, zf_c yt)) : wpY_scale post (zf_n sz, zf_c st, zf_c en, zf_c sp, zf_c yn, zf_c yl, zf_c yt) (nI a) (nI c) v := by
  unfold wpY_scale
  refine zy_good ha (br_t rfl (zy_good hc (br_t rfl (zy_reduced v ⟨pk_in c 3 hc, pk_in a 3 ha, nm_r (zf_upni sz a (sz c) rfl (by omega) (zf_atn sz c rfl (by omega))) ?_⟩))))
  exact zy_scale_40 ha hc H
end
end
section
/-! weave -/
def zm_gd (n : Nat) : Nat → Bool := fun k => decide (k / 4 % 4 < n ∧ k % 4 < n)
def zm_wv (sd r : Nat) : zf_F := if (r / 4 % 4 + 2 * (r % 4) + r / 16 + sd) % 3 = 0 then 0 else zf_mk (sd * (r / 4 % 4 + 1) + 3 * (r % 4) + r / 16 * (r / 4 % 4 + r % 4))
theorem zm_wv_at (sd : Nat) {c p q : Nat} (hc : c < 2) (hp : p < 4) (hq : q < 4) : zm_wv sd (16 * c + 4 * p + q) = if (p + 2 * q + c + sd) % 3 = 0 then 0 else zf_mk (sd * (p + 1) + 3 * q + c * (p + q)) := by
  unfold zm_wv
  rw [show (16 * c + 4 * p + q) / 4 % 4 = p by omega, show (16 * c + 4 * p + q) % 4 = q by omega, show (16 * c + 4 * p + q) / 16 = c by omega]
theorem zx_w3 (p q c sd : Nat) (hp : p < 4) (hq : q < 4) (hc : c < 2) (hs : sd < 997) : (nI p + 2 * nI q + nI c + nI sd) - (nI p + 2 * nI q + nI c + nI sd) / 3 * 3 = nI ((p + 2 * q + c + sd) % 3) := by
  have e : nI p + 2 * nI q + nI c + nI sd = nI (p + 2 * q + c + sd) := by
    rw [← nI_add, ← nI_add, ← nI_add, ← pk_mul]; rfl
  rw [e]
  exact pk_rem (d := 3) (by omega) (by decide) (by decide)
theorem zx_w7 (p q c sd : Nat) : nI sd * (nI p + 1) + 3 * nI q + nI c * (nI p + nI q) = nI (sd * (p + 1) + 3 * q + c * (p + q)) := by
  rw [nI_1, nI_add p q, pk_mul, pk_mul, show (3 : Int32) * nI q = nI (3 * q) from pk_mul 3 q, nI_add, nI_add]
theorem zx_w7lt {p q c sd : Nat} (hp : p < 4) (hq : q < 4) (hc : c < 2) (hs : sd < 997) : sd * (p + 1) + 3 * q + c * (p + q) < 2147483648 := by
  have h1 : sd * (p + 1) ≤ 996 * 4 := Nat.mul_le_mul (by omega) (by omega)
  have h2 : c * (p + q) ≤ 1 * 6 := Nat.mul_le_mul (by omega) (by omega)
  omega
section
variable {m w b : Int32} {sz : Nat → Nat} {st en sp : Nat → zf_F} {me : Nat → Nat} {sg ro : Nat → zf_F} {co : Nat → Nat} {re : Nat → zf_F} {pi : Nat → Nat} {nw nx ke : Nat → zf_F} {yn yl yt : Nat → zf_F}
theorem zx_weave_77 {post : Int32 → SX → Prop} {a sd : Nat} (ha : a < 3) (hn : sz a ≤ 4) (hs : sd < 997) (H : post 0 (m, w, b, zf_n sz, zf_c st, zf_c en, zf_c (zm_pw 32 a (zm_gd (sz a)) (zm_wv sd) sp), zf_n me, zf_c sg, zf_c ro, zf_n co, zf_c re, zf_n pi, zf_c nw, zf_c nx, zf_c ke)) : ∃ n, wX_weave_77 post (nI a) (nI sd) m w b n 0 (zf_n sz) (zf_c st) (zf_c en) (zf_c sp) (zf_n me) (zf_c sg) (zf_c ro) (zf_n co) (zf_c re) (zf_n pi) (zf_c nw) (zf_c nx) (zf_c ke) := by
  have e2 : zf_n sz (nI a).toNatClampNeg = nI (sz a) := zf_atn sz a rfl (by omega)
  refine loop_0 (fun n r s => wX_weave_77 post (nI a) (nI sd) m w b n (nI r) (zf_n sz) (zf_c st) (zf_c en) (zf_c s) (zf_n me) (zf_c sg) (zf_c ro) (zf_n co) (zf_c re) (zf_n pi) (zf_c nw) (zf_c nx) (zf_c ke)) (fun r s => s = zm_pw 32 a (fun k => decide (k < r ∧ k / 4 % 4 < sz a ∧ k % 4 < sz a)) (zm_wv sd) sp) 32 sp (zm_pw_0 (by decide) (fun k _ => by simp)) (fun n s hI => ?_) (fun n r s hr hI ih => ?_)
  · have e : s = zm_pw 32 a (zm_gd (sz a)) (zm_wv sd) sp := hI.trans (zm_pw_same (by decide) (fun k hk => by unfold zm_gd; simp only [decide_eq_true_eq]; omega))
    subst e
    exact pk_le 32 32 (fun _ => H) (fun z => by omega)
  · subst hI
    have hp : r / 4 % 4 < 4 := Nat.mod_lt _ (by decide)
    have hq : r % 4 < 4 := Nat.mod_lt _ (by decide)
    have hc : r / 16 < 2 := by omega
    have hr' : r = 16 * (r / 16) + 4 * (r / 4 % 4) + r % 4 := by omega
    have hv := zm_wv_at sd hc hp hq
    rw [← hr'] at hv
    refine pk_le 32 r (fun z => by omega) (fun _ => nm_r (zx_sh4 (by omega)) (nm_r (e' := nI (r / 4 % 4)) (by rw [zx_sh2 (by omega), zx_an3 (by omega)]) (nm_r (zx_an3 (by omega)) ⟨pk_in a 3 ha, pk_le (sz a) (r / 4 % 4) (fun z => nm_r (nI_1 r) (ih _ ?_)) (fun z1 => ⟨pk_in a 3 ha, pk_le (sz a) (r % 4) (fun z => nm_r (nI_1 r) (ih _ ?_)) (fun z2 => nm_r (zx_w7 _ _ _ _) ⟨by decide, ?_⟩) e2⟩) e2⟩)))
    · exact zm_pw_same (by decide) (fun k hk => by simp only [decide_eq_true_eq]; omega)
    · exact zm_pw_same (by decide) (fun k hk => by simp only [decide_eq_true_eq]; omega)
    · refine pk_eq ((r / 4 % 4 + 2 * (r % 4) + r / 16 + sd) % 3) 0 (fun h => ⟨pk_in (32 * a + r) 96 (by omega) (zx_k32 _ _), nm_r (zf_upw (P' := fun k => decide (k < r + 1 ∧ k / 4 % 4 < sz a ∧ k % 4 < sz a)) hr (fun k hk => by simp only [decide_eq_true_eq]; omega) (zx_k32 _ _) (by omega) (by rw [hv, if_pos h]; rfl)) (nm_r (nI_1 r) (ih _ rfl))⟩) (fun h => zx_moduloN (zx_w7lt hp hq hc hs) rfl ⟨pk_in (32 * a + r) 96 (by omega) (zx_k32 _ _), nm_r (zf_upw (P' := fun k => decide (k < r + 1 ∧ k / 4 % 4 < sz a ∧ k % 4 < sz a)) hr (fun k hk => by simp only [decide_eq_true_eq]; omega) (zx_k32 _ _) (by omega) (by rw [hv, if_neg h])) (nm_r (nI_1 r) (ih _ rfl))⟩) (zx_w3 _ _ _ _ hp hq hc hs) rfl (by omega) (by omega)
theorem zx_weave {post : Int32 → SX → Prop} {a sd : Nat} (ha : a < 3) (hn : sz a ≤ 4) (hs : sd < 997)
    (H : post 0 (m, w, b, zf_n sz, zf_c (zm_pw 4 a (fun k => decide (k < sz a)) (fun q => zf_mk (sd + q)) st), zf_c (zm_pw 4 a (fun k => decide (k < sz a)) (fun q => zf_mk (1 + sd * q)) en), zf_c (zm_pw 32 a (zm_gd (sz a)) (zm_wv sd) sp), zf_n me, zf_c sg, zf_c ro, zf_n co, zf_c re, zf_n pi, zf_c nw, zf_c nx, zf_c ke)) : wpX_weave post (m, w, b, zf_n sz, zf_c st, zf_c en, zf_c sp, zf_n me, zf_c sg, zf_c ro, zf_n co, zf_c re, zf_n pi, zf_c nw, zf_c nx, zf_c ke) (nI a) (nI sd) := by
  have e2 : zf_n sz (nI a).toNatClampNeg = nI (sz a) := zf_atn sz a rfl (by omega)
  unfold wpX_weave
  refine zx_good ha (br_f (by decide) (br_f (nI_pos (by omega)) (pk_lt sd 997 (fun _ => ?_) (fun z => by omega))))
  refine loop_0 (fun n i (s : (Nat → zf_F) × (Nat → zf_F)) => wX_weave_25 post (nI a) (nI sd) m w b n (nI i) (zf_n sz) (zf_c (s.1)) (zf_c (s.2)) (zf_c sp) (zf_n me) (zf_c sg) (zf_c ro) (zf_n co) (zf_c re) (zf_n pi) (zf_c nw) (zf_c nx) (zf_c ke)) (fun i s => s = (zm_pw 4 a (fun k => decide (k < i)) (fun q => zf_mk (sd + q)) st, zm_pw 4 a (fun k => decide (k < i)) (fun q => zf_mk (1 + sd * q)) en)) (sz a) (st, en) (zm_pair (zm_pw_0 (by decide) (fun k _ => by simp)) (zm_pw_0 (by decide) (fun k _ => by simp))) (fun n s hI => ?_) (fun n i s hi hI ih => ?_)
  · subst hI
    exact And.intro (pk_in a 3 ha) (pk_le (sz a) (sz a) (fun _ => zx_weave_77 ha hn hs H) (fun z => by omega) e2)
  · subst hI
    have hb : sd * i ≤ 996 * 3 := Nat.mul_le_mul (by omega) (by omega)
    have e3 : 1 + nI sd * nI i = nI (1 + sd * i) := by rw [pk_mul]; exact nI_add 1 _
    refine And.intro (pk_in a 3 ha) (pk_le (sz a) i (fun z => by omega) (fun _ => ?_) e2)
    refine zx_moduloN (n := sd + i) (by omega) (nI_add _ _) ⟨pk_in (4 * a + i) 12 (by omega) (zx_k4 _ _), nm_r (zf_upw (P' := fun k => decide (k < i + 1)) (r := i) (by omega) (fun k hk => by simp only [decide_eq_true_eq]; omega) (zx_k4 _ _) (by omega) rfl) ?_⟩
    exact zx_moduloN (n := 1 + sd * i) (by omega) e3 ⟨pk_in (4 * a + i) 12 (by omega) (zx_k4 _ _), nm_r (zf_upw (P' := fun k => decide (k < i + 1)) (r := i) (by omega) (fun k hk => by simp only [decide_eq_true_eq]; omega) (zx_k4 _ _) (by omega) rfl) (nm_r (nI_1 i) (ih (_, _) rfl))⟩
/-! weave of Y -/
def zm_wy (n p i : Nat) : Nat → Bool := fun k => decide (k / 4 % 4 < n ∧ k % 4 < n ∧ (k / 4 % 4 < p ∨ (k / 4 % 4 = p ∧ 4 * (k / 16) + k % 4 < i)))
theorem zy_weave_80 {post : Int32 → SY → Prop} {J : zx_J7} {a sd p : Nat} (ha : a < 3) (hn : sz a ≤ 4) (hs : sd < 997) (hp : p < sz a) {f : Nat → zf_F}
    (H : J (nI (p + 1)) (zf_n sz) (zf_c st) (zf_c en) (zf_c (zm_pw 32 a (zm_wy (sz a) (p + 1) 0) (zm_wv sd) f)) (zf_c yn) (zf_c yl) (zf_c yt)) : ∃ n, wY_weave_80 post J (nI a) (nI sd) (nI p) n 0 (zf_n sz) (zf_c st) (zf_c en) (zf_c (zm_pw 32 a (zm_wy (sz a) p 0) (zm_wv sd) f)) (zf_c yn) (zf_c yl) (zf_c yt) := by
  have e2 : zf_n sz (nI a).toNatClampNeg = nI (sz a) := zf_atn sz a rfl (by omega)
  refine loop_0 (fun n i s => wY_weave_80 post J (nI a) (nI sd) (nI p) n (nI i) (zf_n sz) (zf_c st) (zf_c en) (zf_c s) (zf_c yn) (zf_c yl) (zf_c yt)) (fun i s => s = zm_pw 32 a (zm_wy (sz a) p i) (zm_wv sd) f) 8 _ rfl (fun n s hI => ?_) (fun n i s hi hI ih => ?_)
  · have e : s = zm_pw 32 a (zm_wy (sz a) (p + 1) 0) (zm_wv sd) f := hI.trans (zm_pw_same (by decide) (fun k hk => by unfold zm_wy; simp only [decide_eq_true_eq]; omega))
    subst e
    exact pk_le 8 8 (fun _ => nm_r (nI_1 p) H) (fun z => by omega)
  · subst hI
    have hq : i % 4 < 4 := Nat.mod_lt _ (by decide)
    have hc : i / 4 < 2 := by omega
    have hp4 : p < 4 := by omega
    have hv := zm_wv_at sd hc hp4 hq
    have k1 : nI i - nI i / 4 * 4 = nI (i % 4) := pk_rem (d := 4) (by omega) (by decide) (by decide)
    have k2 : nI i / 4 = nI (i / 4) := pk_div (d := 4) (by omega) (by decide) (by decide)
    have k3 : 32 * nI a + 16 * nI (i / 4) + 4 * nI p + nI (i % 4) = nI (32 * a + (16 * (i / 4) + 4 * p + i % 4)) := by
      rw [zx_kst]; exact congrArg nI (by omega)
    refine pk_le 8 i (fun z => by omega) (fun _ => ⟨by decide, nm_r k1 ⟨by decide, nm_r k2 ⟨pk_in a 3 ha, pk_le (sz a) (i % 4) (fun z => nm_r (nI_1 i) (ih _ ?_)) (fun z2 => ⟨by decide, nm_r (e' := zf_I (zf_mk (sd * (p + 1) + 3 * (i % 4) + i / 4 * (p + i % 4)))) (by rw [zx_w7]; exact zf_rem (zx_w7lt hp4 hq hc hs)) ⟨by decide, ?_⟩⟩) e2⟩⟩⟩)
    · exact zm_pw_same (by decide) (fun k hk => by unfold zm_wy; simp only [decide_eq_true_eq]; omega)
    · refine pk_eq ((p + 2 * (i % 4) + i / 4 + sd) % 3) 0 (fun h => ⟨pk_in _ 96 (by omega) k3, nm_r (zf_upw (P' := zm_wy (sz a) p (i + 1)) (by omega) (fun k hk => by unfold zm_wy; simp only [decide_eq_true_eq]; omega) k3 (by omega) (by rw [hv, if_pos h]; rfl)) (nm_r (nI_1 i) (ih _ rfl))⟩) (fun h => ⟨pk_in _ 96 (by omega) k3, nm_r (zf_upw (P' := zm_wy (sz a) p (i + 1)) (by omega) (fun k hk => by unfold zm_wy; simp only [decide_eq_true_eq]; omega) k3 (by omega) (by rw [hv, if_neg h])) (nm_r (nI_1 i) (ih _ rfl))⟩) (zx_w3 _ _ _ _ hp4 hq hc hs) rfl (by omega) (by omega)
theorem zy_weave {post : Int32 → SY → Prop} {a sd : Nat} (ha : a < 3) (hn : sz a ≤ 4) (hs : sd < 997)
    (H : post 0 (zf_n sz, zf_c (zm_pw 4 a (fun k => decide (k < sz a)) (fun q => zf_mk (sd + q)) st), zf_c (zm_pw 4 a (fun k => decide (k < sz a)) (fun q => zf_mk (1 + sd * q)) en), zf_c (zm_pw 32 a (zm_gd (sz a)) (zm_wv sd) sp), zf_c yn, zf_c yl, zf_c yt)) : wpY_weave post (zf_n sz, zf_c st, zf_c en, zf_c sp, zf_c yn, zf_c yl, zf_c yt) (nI a) (nI sd) := by
  have e2 : zf_n sz (nI a).toNatClampNeg = nI (sz a) := zf_atn sz a rfl (by omega)
  unfold wpY_weave
  refine zy_good ha (br_t rfl (br_f (nI_pos (by omega)) (pk_le sd 996 (fun _ => ?_) (fun z => by omega))))
  refine loop_0 (fun n i (s : (Nat → zf_F) × (Nat → zf_F) × (Nat → zf_F)) => wY_weave_26 post (nI a) (nI sd) n (nI i) (zf_n sz) (zf_c (s.1)) (zf_c (s.2.1)) (zf_c (s.2.2)) (zf_c yn) (zf_c yl) (zf_c yt)) (fun i s => s = (zm_pw 4 a (fun k => decide (k < i)) (fun q => zf_mk (sd + q)) st, zm_pw 4 a (fun k => decide (k < i)) (fun q => zf_mk (1 + sd * q)) en, zm_pw 32 a (zm_wy (sz a) i 0) (zm_wv sd) sp)) (sz a) (st, en, sp) (zm_pair (zm_pw_0 (by decide) (fun k _ => by simp)) (zm_pair (zm_pw_0 (by decide) (fun k _ => by simp)) (zm_pw_0 (by decide) (fun k _ => by unfold zm_wy; simp)))) (fun n s hI => ?_) (fun n i s hi hI ih => ?_)
  · have e : s = (zm_pw 4 a (fun k => decide (k < sz a)) (fun q => zf_mk (sd + q)) st, zm_pw 4 a (fun k => decide (k < sz a)) (fun q => zf_mk (1 + sd * q)) en, zm_pw 32 a (zm_gd (sz a)) (zm_wv sd) sp) := hI.trans (zm_pair rfl (zm_pair rfl (zm_pw_same (by decide) (fun k hk => by unfold zm_gd zm_wy; simp only [decide_eq_true_eq]; omega))))
    subst e
    exact And.intro (pk_in a 3 ha) (pk_le (sz a) (sz a) (fun _ => H) (fun z => by omega) e2)
  · subst hI
    have hb : sd * i ≤ 996 * 3 := Nat.mul_le_mul (by omega) (by omega)
    have e3 : 1 + nI sd * nI i = nI (1 + sd * i) := by rw [pk_mul]; exact nI_add 1 _
    refine And.intro (pk_in a 3 ha) (pk_le (sz a) i (fun z => by omega) (fun _ => pk_le 4 i (fun z => by omega) (fun _ => ⟨by decide, pk_in (4 * a + i) 12 (by omega) (zx_k4 _ _), nm_r (zf_upw (P' := fun k => decide (k < i + 1)) (r := i) (by omega) (fun k hk => by simp only [decide_eq_true_eq]; omega) (zx_k4 _ _) (by omega) (by rw [nI_add]; exact zf_rem (by omega))) ⟨by decide, pk_in (4 * a + i) 12 (by omega) (zx_k4 _ _), nm_r (zf_upw (P' := fun k => decide (k < i + 1)) (r := i) (by omega) (fun k hk => by simp only [decide_eq_true_eq]; omega) (zx_k4 _ _) (by omega) (by rw [e3]; exact zf_rem (by omega))) ?_⟩⟩)) e2)
    exact zy_weave_80 ha hn hs hi (ih (_, _, _) rfl)
end
end
section
/-! mirror -/
def zm_mr (n k : Nat) : Nat := 16 * (k / 16) + 4 * (n - 1 - k / 4 % 4) + (n - 1 - k % 4)
def zm_mx (n t : Nat) : Nat → Bool := fun k => decide (k / 4 % 4 < n ∧ k % 4 < n ∧ 16 * (k / 16) + 4 * (n - 1 - k / 4 % 4) + (n - 1 - k % 4) < t)
def zm_my (n p i : Nat) : Nat → Bool := fun k => decide (k / 4 % 4 < n ∧ k % 4 < n ∧ (n - 1 - k / 4 % 4 < p ∨ (n - 1 - k / 4 % 4 = p ∧ 4 * (k / 16) + (n - 1 - k % 4) < i)))
def zm_ms (n q : Nat) : Nat → Bool := fun k => decide (n - q ≤ k ∧ k < n)
theorem zm_mx_set : ∀ n, n < 5 → ∀ r, r < 32 → (r / 4 % 4 < n ∧ r % 4 < n) → ∀ k, k < 32 → (zm_mx n (r + 1) k = true ↔ (zm_mx n r k = true ∨ k = zm_mr n r)) := by decide +kernel
theorem zm_mx_skip : ∀ n, n < 5 → ∀ r, r < 32 → ¬ (r / 4 % 4 < n ∧ r % 4 < n) → ∀ k, k < 32 → (zm_mx n (r + 1) k = true ↔ zm_mx n r k = true) := by decide +kernel
theorem zm_mx_end : ∀ n, n < 5 → ∀ k, k < 32 → (zm_gd n k = true ↔ zm_mx n 32 k = true) := by decide +kernel
theorem zm_mr_mr : ∀ n, n < 5 → ∀ r, r < 32 → (r / 4 % 4 < n ∧ r % 4 < n) → zm_mr n r < 32 ∧ zm_mr n (zm_mr n r) = r := by decide +kernel
theorem zm_my_set : ∀ n, n < 5 → ∀ p, p < n → ∀ i, i < 8 → i % 4 < n → ∀ k, k < 32 → (zm_my n p (i + 1) k = true ↔ (zm_my n p i k = true ∨ k = 16 * (i / 4) + 4 * (n - 1 - p) + (n - 1 - i % 4))) := by
  intro n hn
  have h : n = 0 ∨ n = 1 ∨ n = 2 ∨ n = 3 ∨ n = 4 := by omega
  rcases h with rfl | rfl | rfl | rfl | rfl <;> decide +kernel
theorem zm_my_skip : ∀ n, n < 5 → ∀ p, p < n → ∀ i, i < 8 → ¬ i % 4 < n → ∀ k, k < 32 → (zm_my n p (i + 1) k = true ↔ zm_my n p i k = true) := by
  intro n hn
  have h : n = 0 ∨ n = 1 ∨ n = 2 ∨ n = 3 ∨ n = 4 := by omega
  rcases h with rfl | rfl | rfl | rfl | rfl <;> decide +kernel
theorem zm_my_next : ∀ n, n < 5 → ∀ p, p < n → ∀ k, k < 32 → (zm_my n (p + 1) 0 k = true ↔ zm_my n p 8 k = true) := by decide +kernel
theorem zm_my_end : ∀ n, n < 5 → ∀ k, k < 32 → (zm_gd n k = true ↔ zm_my n n 0 k = true) := by decide +kernel
theorem zm_my_0 : ∀ n, n < 5 → ∀ k, k < 32 → ¬ zm_my n 0 0 k = true := by decide +kernel
theorem zm_mr_y : ∀ n, n < 5 → ∀ p, p < n → ∀ i, i < 8 → i % 4 < n → zm_mr n (16 * (i / 4) + 4 * (n - 1 - p) + (n - 1 - i % 4)) = 16 * (i / 4) + 4 * p + i % 4 := by decide +kernel
theorem zm_ms_set : ∀ n, n < 5 → ∀ i, i < n → ∀ k, k < 4 → (zm_ms n (i + 1) k = true ↔ (zm_ms n i k = true ∨ k = n - 1 - i)) := by decide +kernel
theorem zm_ms_0 : ∀ n, n < 5 → ∀ k, k < 4 → ¬ zm_ms n 0 k = true := by decide +kernel
theorem zm_ms_end : ∀ n, n < 5 → ∀ k, k < 4 → (decide (k < n) = true ↔ zm_ms n n k = true) := by decide +kernel
section
variable {m w b : Int32} {sz : Nat → Nat} {st en sp : Nat → zf_F} {me : Nat → Nat} {sg ro : Nat → zf_F} {co : Nat → Nat} {re : Nat → zf_F} {pi : Nat → Nat} {nw nx ke : Nat → zf_F} {yn yl yt : Nat → zf_F}
theorem zx_mirror_111 {post : Int32 → SX → Prop} {a c n : Nat} (ha : a < 3) (hc : c < 3) (hac : c ≠ a) (h1 : 1 ≤ n) (hn : n ≤ 4) (H : post 0 (m, w, b, zf_n sz, zf_c st, zf_c en, zf_c (zm_pw 32 a (zm_gd n) (fun k => sp (32 * c + zm_mr n k)) sp), zf_n me, zf_c sg, zf_c ro, zf_n co, zf_c re, zf_n pi, zf_c nw, zf_c nx, zf_c ke)) : ∃ k, wX_mirror_111 post (nI a) (nI c) (nI (n - 1)) m w b k 0 (zf_n sz) (zf_c st) (zf_c en) (zf_c sp) (zf_n me) (zf_c sg) (zf_c ro) (zf_n co) (zf_c re) (zf_n pi) (zf_c nw) (zf_c nx) (zf_c ke) := by
  refine loop_0 (fun k r s => wX_mirror_111 post (nI a) (nI c) (nI (n - 1)) m w b k (nI r) (zf_n sz) (zf_c st) (zf_c en) (zf_c s) (zf_n me) (zf_c sg) (zf_c ro) (zf_n co) (zf_c re) (zf_n pi) (zf_c nw) (zf_c nx) (zf_c ke)) (fun r s => s = zm_pw 32 a (zm_mx n r) (fun k => sp (32 * c + zm_mr n k)) sp) 32 sp (zm_pw_0 (by decide) (fun k _ => by unfold zm_mx; simp)) (fun k s hI => ?_) (fun k r s hr hI ih => ?_)
  · have e : s = zm_pw 32 a (zm_gd n) (fun k => sp (32 * c + zm_mr n k)) sp := hI.trans (zm_pw_same (by decide) (zm_mx_end n (by omega)))
    subst e
    exact pk_le 32 32 (fun _ => H) (fun z => by omega)
  · subst hI
    refine pk_le 32 r (fun z => by omega) (fun _ => nm_r (e' := nI (r / 4 % 4)) (by rw [zx_sh2 (by omega), zx_an3 (by omega)]) (nm_r (zx_an3 (by omega)) (pk_lt (n - 1) (r / 4 % 4) (fun z => nm_r (nI_1 r) (ih _ ?_)) (fun z1 => pk_lt (n - 1) (r % 4) (fun z => nm_r (nI_1 r) (ih _ ?_)) (fun z2 => ?_)))))
    · exact zm_pw_same (by decide) (zm_mx_skip n (by omega) r hr (by omega))
    · exact zm_pw_same (by decide) (zm_mx_skip n (by omega) r hr (by omega))
    · have e1 : zf_c (zm_pw 32 a (zm_mx n r) (fun k => sp (32 * c + zm_mr n k)) sp) (32 * nI c + nI r).toNatClampNeg = zf_I (sp (32 * c + r)) := by
        rw [zf_at _ (32 * c + r) (zx_k32 _ _) (by omega), zm_pw_at hr (Or.inl hac)]
      have e2 : 32 * nI a + 16 * (nI r >>> ((4 : Int32) &&& 31)) + 4 * (nI (n - 1) - nI (r / 4 % 4)) + nI (n - 1) - nI (r % 4) = nI (32 * a + zm_mr n r) := by
        rw [zx_sh4 (by omega), pk_sub (by omega), zx_kst, pk_sub (by omega)]
        exact congrArg nI (by unfold zm_mr; omega)
      have hg : r / 4 % 4 < n ∧ r % 4 < n := by omega
      have hlt := (zm_mr_mr n (by omega) r hr hg).1
      have hmm := (zm_mr_mr n (by omega) r hr hg).2
      exact ⟨pk_in (32 * c + r) 96 (by omega) (zx_k32 _ _), pk_in (32 * a + zm_mr n r) 96 (by omega) e2, nm_r (zf_upw (P' := zm_mx n (r + 1)) hlt (zm_mx_set n (by omega) r hr hg) e2 (by omega) (by rw [e1, hmm])) (nm_r (nI_1 r) (ih _ rfl))⟩
theorem zx_mirror_48 {post : Int32 → SX → Prop} {a c n : Nat} (ha : a < 3) (hc : c < 3) (hac : c ≠ a) (h1 : 1 ≤ n) (hn : n ≤ 4) (H : post 0 (m, w, b, zf_n sz, zf_c (zm_pw 4 a (fun k => decide (k < n)) (fun k => st (4 * c + (n - 1 - k))) st), zf_c (zm_pw 4 a (fun k => decide (k < n)) (fun k => en (4 * c + (n - 1 - k))) en), zf_c (zm_pw 32 a (zm_gd n) (fun k => sp (32 * c + zm_mr n k)) sp), zf_n me, zf_c sg, zf_c ro, zf_n co, zf_c re, zf_n pi, zf_c nw, zf_c nx, zf_c ke)) : ∃ k, wX_mirror_48 post (nI a) (nI c) (nI (n - 1)) m w b k 0 (zf_n sz) (zf_c st) (zf_c en) (zf_c sp) (zf_n me) (zf_c sg) (zf_c ro) (zf_n co) (zf_c re) (zf_n pi) (zf_c nw) (zf_c nx) (zf_c ke) := by
  refine loop_0 (fun k i (s : (Nat → zf_F) × (Nat → zf_F)) => wX_mirror_48 post (nI a) (nI c) (nI (n - 1)) m w b k (nI i) (zf_n sz) (zf_c (s.1)) (zf_c (s.2)) (zf_c sp) (zf_n me) (zf_c sg) (zf_c ro) (zf_n co) (zf_c re) (zf_n pi) (zf_c nw) (zf_c nx) (zf_c ke)) (fun i s => s = (zm_pw 4 a (zm_ms n i) (fun k => st (4 * c + (n - 1 - k))) st, zm_pw 4 a (zm_ms n i) (fun k => en (4 * c + (n - 1 - k))) en)) n (st, en) (zm_pair (zm_pw_0 (by decide) (zm_ms_0 n (by omega))) (zm_pw_0 (by decide) (zm_ms_0 n (by omega)))) (fun k s hI => ?_) (fun k i s hi hI ih => ?_)
  · have e : s = (zm_pw 4 a (fun k => decide (k < n)) (fun k => st (4 * c + (n - 1 - k))) st, zm_pw 4 a (fun k => decide (k < n)) (fun k => en (4 * c + (n - 1 - k))) en) := hI.trans (zm_pair (zm_pw_same (by decide) (zm_ms_end n (by omega))) (zm_pw_same (by decide) (zm_ms_end n (by omega))))
    subst e
    exact pk_lt (n - 1) n (fun _ => zx_mirror_111 ha hc hac h1 hn H) (fun z => by omega)
  · subst hI
    have e1 : zf_c (zm_pw 4 a (zm_ms n i) (fun k => st (4 * c + (n - 1 - k))) st) (4 * nI c + nI i).toNatClampNeg = zf_I (st (4 * c + i)) := by
      rw [zf_at _ (4 * c + i) (zx_k4 _ _) (by omega), zm_pw_at (by omega) (Or.inl hac)]
    have e2 : zf_c (zm_pw 4 a (zm_ms n i) (fun k => en (4 * c + (n - 1 - k))) en) (4 * nI c + nI i).toNatClampNeg = zf_I (en (4 * c + i)) := by
      rw [zf_at _ (4 * c + i) (zx_k4 _ _) (by omega), zm_pw_at (by omega) (Or.inl hac)]
    have e3 : 4 * nI a + nI (n - 1) - nI i = nI (4 * a + (n - 1 - i)) := by
      rw [zx_k4, pk_sub (by omega)]
      exact congrArg nI (by omega)
    have e4 : n - 1 - (n - 1 - i) = i := by omega
    exact pk_lt (n - 1) i (fun z => by omega) (fun _ => ⟨pk_in (4 * c + i) 12 (by omega) (zx_k4 _ _), pk_in (4 * a + (n - 1 - i)) 12 (by omega) e3, nm_r (zf_upw (P' := zm_ms n (i + 1)) (by omega) (zm_ms_set n (by omega) i hi) e3 (by omega) (by rw [e1, e4])) ⟨pk_in (4 * c + i) 12 (by omega) (zx_k4 _ _), pk_in (4 * a + (n - 1 - i)) 12 (by omega) e3, nm_r (zf_upw (P' := zm_ms n (i + 1)) (by omega) (zm_ms_set n (by omega) i hi) e3 (by omega) (by rw [e2, e4])) (nm_r (nI_1 i) (ih (_, _) rfl))⟩⟩)
theorem zx_mirror {post : Int32 → SX → Prop} {a c : Nat} (ha : a < 3) (hc : c < 3) (hac : c ≠ a) (h1 : 1 ≤ sz c) (hn : sz c ≤ 4) (H : post 0 (m, w, b, zf_n (zf_u sz a (sz c)), zf_c (zm_pw 4 a (fun k => decide (k < sz c)) (fun k => zm_zr 4 a st (4 * c + (sz c - 1 - k))) (zm_zr 4 a st)), zf_c (zm_pw 4 a (fun k => decide (k < sz c)) (fun k => zm_zr 4 a en (4 * c + (sz c - 1 - k))) (zm_zr 4 a en)), zf_c (zm_pw 32 a (zm_gd (sz c)) (fun k => zm_zr 32 a sp (32 * c + zm_mr (sz c) k)) (zm_zr 32 a sp)), zf_n me, zf_c sg, zf_c ro, zf_n co, zf_c re, zf_n pi, zf_c nw, zf_c nx, zf_c ke)) : wpX_mirror post (m, w, b, zf_n sz, zf_c st, zf_c en, zf_c sp, zf_n me, zf_c sg, zf_c ro, zf_n co, zf_c re, zf_n pi, zf_c nw, zf_c nx, zf_c ke) (nI a) (nI c) := by
  have e2 : zf_n sz (nI c).toNatClampNeg = nI (sz c) := zf_atn sz c rfl (by omega)
  unfold wpX_mirror
  refine zx_good ha (br_f (by decide) (zx_good hc (br_f (by decide) (pk_eq a c (fun z => by omega) (fun _ => ⟨pk_in c 3 hc, nm_r (e' := nI (sz c - 1)) (by rw [e2]; exact pk_sub (b := 1) h1) ⟨pk_in c 3 hc, ?_⟩⟩)))))
  rw [e2]
  exact zx_size ha h1 hn (zx_mirror_48 ha hc hac h1 hn H)
/-! mirror of Y -/
theorem zy_mirror_110 {post : Int32 → SY → Prop} {J : zx_J7} {a c n p : Nat} (ha : a < 3) (hc : c < 3) (hac : c ≠ a) (hn : n ≤ 4) (hp : p < n)
    (H : J (nI (p + 1)) (zf_n sz) (zf_c st) (zf_c en) (zf_c (zm_pw 32 a (zm_my n (p + 1) 0) (fun k => sp (32 * c + zm_mr n k)) sp)) (zf_c yn) (zf_c yl) (zf_c yt)) : ∃ k, wY_mirror_110 post J (nI a) (nI c) (nI n) (nI p) k 0 (zf_n sz) (zf_c st) (zf_c en) (zf_c (zm_pw 32 a (zm_my n p 0) (fun k => sp (32 * c + zm_mr n k)) sp)) (zf_c yn) (zf_c yl) (zf_c yt) := by
  refine loop_0 (fun k i s => wY_mirror_110 post J (nI a) (nI c) (nI n) (nI p) k (nI i) (zf_n sz) (zf_c st) (zf_c en) (zf_c s) (zf_c yn) (zf_c yl) (zf_c yt)) (fun i s => s = zm_pw 32 a (zm_my n p i) (fun k => sp (32 * c + zm_mr n k)) sp) 8 _ rfl (fun k s hI => ?_) (fun k i s hi hI ih => ?_)
  · have e : s = zm_pw 32 a (zm_my n (p + 1) 0) (fun k => sp (32 * c + zm_mr n k)) sp := hI.trans (zm_pw_same (by decide) (zm_my_next n (by omega) p hp))
    subst e
    exact pk_le 8 8 (fun _ => nm_r (nI_1 p) H) (fun z => by omega)
  · subst hI
    have k1 : nI i - nI i / 4 * 4 = nI (i % 4) := pk_rem (d := 4) (by omega) (by decide) (by decide)
    have k2 : nI i / 4 = nI (i / 4) := pk_div (d := 4) (by omega) (by decide) (by decide)
    refine pk_le 8 i (fun z => by omega) (fun _ => ⟨by decide, nm_r k1 ⟨by decide, nm_r k2 (pk_le n (i % 4) (fun z => nm_r (nI_1 i) (ih _ ?_)) (fun z2 => ?_))⟩⟩)
    · exact zm_pw_same (by decide) (zm_my_skip n (by omega) p hp i hi (by omega))
    · have hr : 16 * (i / 4) + 4 * p + i % 4 < 32 := by omega
      have k3 : 32 * nI c + 16 * nI (i / 4) + 4 * nI p + nI (i % 4) = nI (32 * c + (16 * (i / 4) + 4 * p + i % 4)) := by
        rw [zx_kst]; exact congrArg nI (by omega)
      have e1 : zf_c (zm_pw 32 a (zm_my n p i) (fun k => sp (32 * c + zm_mr n k)) sp) (32 * nI c + 16 * nI (i / 4) + 4 * nI p + nI (i % 4)).toNatClampNeg = zf_I (sp (32 * c + (16 * (i / 4) + 4 * p + i % 4))) := by
        rw [zf_at _ _ k3 (by omega), zm_pw_at hr (Or.inl hac)]
      have hlt : 16 * (i / 4) + 4 * (n - 1 - p) + (n - 1 - i % 4) < 32 := by omega
      have e2 : 32 * nI a + 16 * nI (i / 4) + 4 * (nI n - 1 - nI p) + nI n - 1 - nI (i % 4) = nI (32 * a + (16 * (i / 4) + 4 * (n - 1 - p) + (n - 1 - i % 4))) := by
        have q1 : nI n - 1 = nI (n - 1) := pk_sub (b := 1) (by omega)
        rw [q1, pk_sub (by omega), zx_kst]
        have q2 : nI (32 * a + 16 * (i / 4) + 4 * (n - 1 - p) + n) - 1 = nI (32 * a + 16 * (i / 4) + 4 * (n - 1 - p) + n - 1) := pk_sub (b := 1) (by omega)
        rw [q2, pk_sub (by omega)]
        exact congrArg nI (by omega)
      have hmm : zm_mr n (16 * (i / 4) + 4 * (n - 1 - p) + (n - 1 - i % 4)) = 16 * (i / 4) + 4 * p + i % 4 := zm_mr_y n (by omega) p hp i hi (by omega)
      exact ⟨pk_in _ 96 (by omega) k3, pk_in _ 96 (by omega) e2, nm_r (zf_upw (P' := zm_my n p (i + 1)) hlt (zm_my_set n (by omega) p hp i hi (by omega)) e2 (by omega) (by rw [e1, hmm])) (nm_r (nI_1 i) (ih _ rfl))⟩
theorem zy_mirror_43 {post : Int32 → SY → Prop} {a c n : Nat} (ha : a < 3) (hc : c < 3) (hac : c ≠ a) (h1 : 1 ≤ n) (hn : n ≤ 4) (H : post 0 (zf_n sz, zf_c (zm_pw 4 a (fun k => decide (k < n)) (fun k => st (4 * c + (n - 1 - k))) st), zf_c (zm_pw 4 a (fun k => decide (k < n)) (fun k => en (4 * c + (n - 1 - k))) en), zf_c (zm_pw 32 a (zm_gd n) (fun k => sp (32 * c + zm_mr n k)) sp), zf_c yn, zf_c yl, zf_c yt)) : ∃ k, wY_mirror_43 post (nI a) (nI c) (nI n) k 0 (zf_n sz) (zf_c st) (zf_c en) (zf_c sp) (zf_c yn) (zf_c yl) (zf_c yt) := by
  refine loop_0 (fun k i (s : (Nat → zf_F) × (Nat → zf_F) × (Nat → zf_F)) => wY_mirror_43 post (nI a) (nI c) (nI n) k (nI i) (zf_n sz) (zf_c (s.1)) (zf_c (s.2.1)) (zf_c (s.2.2)) (zf_c yn) (zf_c yl) (zf_c yt)) (fun i s => s = (zm_pw 4 a (zm_ms n i) (fun k => st (4 * c + (n - 1 - k))) st, zm_pw 4 a (zm_ms n i) (fun k => en (4 * c + (n - 1 - k))) en, zm_pw 32 a (zm_my n i 0) (fun k => sp (32 * c + zm_mr n k)) sp)) n (st, en, sp) (zm_pair (zm_pw_0 (by decide) (zm_ms_0 n (by omega))) (zm_pair (zm_pw_0 (by decide) (zm_ms_0 n (by omega))) (zm_pw_0 (by decide) (zm_my_0 n (by omega))))) (fun k s hI => ?_) (fun k i s hi hI ih => ?_)
  · have e : s = (zm_pw 4 a (fun k => decide (k < n)) (fun k => st (4 * c + (n - 1 - k))) st, zm_pw 4 a (fun k => decide (k < n)) (fun k => en (4 * c + (n - 1 - k))) en, zm_pw 32 a (zm_gd n) (fun k => sp (32 * c + zm_mr n k)) sp) := hI.trans (zm_pair (zm_pw_same (by decide) (zm_ms_end n (by omega))) (zm_pair (zm_pw_same (by decide) (zm_ms_end n (by omega))) (zm_pw_same (by decide) (zm_my_end n (by omega)))))
    subst e
    exact pk_le n n (fun _ => H) (fun z => by omega)
  · subst hI
    have e1 : zf_c (zm_pw 4 a (zm_ms n i) (fun k => st (4 * c + (n - 1 - k))) st) (4 * nI c + nI i).toNatClampNeg = zf_I (st (4 * c + i)) := by
      rw [zf_at _ (4 * c + i) (zx_k4 _ _) (by omega), zm_pw_at (by omega) (Or.inl hac)]
    have e2 : zf_c (zm_pw 4 a (zm_ms n i) (fun k => en (4 * c + (n - 1 - k))) en) (4 * nI c + nI i).toNatClampNeg = zf_I (en (4 * c + i)) := by
      rw [zf_at _ (4 * c + i) (zx_k4 _ _) (by omega), zm_pw_at (by omega) (Or.inl hac)]
    have e3 : 4 * nI a + nI n - 1 - nI i = nI (4 * a + (n - 1 - i)) := by
      have q2 : nI (4 * a + n) - 1 = nI (4 * a + n - 1) := pk_sub (b := 1) (by omega)
      rw [zx_k4, q2, pk_sub (by omega)]
      exact congrArg nI (by omega)
    have e4 : n - 1 - (n - 1 - i) = i := by omega
    refine pk_le n i (fun z => by omega) (fun _ => pk_le 4 i (fun z => by omega) (fun _ => ⟨pk_in (4 * c + i) 12 (by omega) (zx_k4 _ _), pk_in (4 * a + (n - 1 - i)) 12 (by omega) e3, nm_r (zf_upw (P' := zm_ms n (i + 1)) (by omega) (zm_ms_set n (by omega) i hi) e3 (by omega) (by rw [e1, e4])) ⟨pk_in (4 * c + i) 12 (by omega) (zx_k4 _ _), pk_in (4 * a + (n - 1 - i)) 12 (by omega) e3, nm_r (zf_upw (P' := zm_ms n (i + 1)) (by omega) (zm_ms_set n (by omega) i hi) e3 (by omega) (by rw [e2, e4])) ?_⟩⟩))
    exact zy_mirror_110 ha hc hac hn hi (ih (_, _, _) rfl)
theorem zy_mirror {post : Int32 → SY → Prop} {a c : Nat} (ha : a < 3) (hc : c < 3) (hac : c ≠ a) (h1 : 1 ≤ sz c) (hn : sz c ≤ 4) (H : post 0 (zf_n (zf_u sz a (sz c)), zf_c (zm_pw 4 a (fun k => decide (k < sz c)) (fun k => zm_zr 4 a st (4 * c + (sz c - 1 - k))) (zm_zr 4 a st)), zf_c (zm_pw 4 a (fun k => decide (k < sz c)) (fun k => zm_zr 4 a en (4 * c + (sz c - 1 - k))) (zm_zr 4 a en)), zf_c (zm_pw 32 a (zm_gd (sz c)) (fun k => zm_zr 32 a sp (32 * c + zm_mr (sz c) k)) (zm_zr 32 a sp)), zf_c yn, zf_c yl, zf_c yt)) : wpY_mirror post (zf_n sz, zf_c st, zf_c en, zf_c sp, zf_c yn, zf_c yl, zf_c yt) (nI a) (nI c) := by
  have e2 : zf_n sz (nI c).toNatClampNeg = nI (sz c) := zf_atn sz c rfl (by omega)
  unfold wpY_mirror
  refine zy_good ha (br_t rfl (zy_good hc (br_t rfl (pk_eq a c (fun z => by omega) (fun _ => ⟨pk_in c 3 hc, nm_r e2 ?_⟩)))))
  exact zy_size ha h1 hn (zy_mirror_43 ha hc hac h1 hn H)
/-! mark -/
theorem zx_mark {post : Int32 → SX → Prop} {a q : Nat} {x v : Int32} (ha : a < 3) (hn : sz a ≤ 4) (hq : q < sz a)
    (H0 : x = 0 → post (zf_I (st (4 * a + q))) (m, w, b, zf_n sz, zf_c (zf_u st (4 * a + q) (zf_red v)), zf_c en, zf_c sp, zf_n me, zf_c sg, zf_c ro, zf_n co, zf_c re, zf_n pi, zf_c nw, zf_c nx, zf_c ke)) (H1 : ¬ x = 0 → post (zf_I (en (4 * a + q))) (m, w, b, zf_n sz, zf_c st, zf_c (zf_u en (4 * a + q) (zf_red v)), zf_c sp, zf_n me, zf_c sg, zf_c ro, zf_n co, zf_c re, zf_n pi, zf_c nw, zf_c nx, zf_c ke)) : wpX_mark post (m, w, b, zf_n sz, zf_c st, zf_c en, zf_c sp, zf_n me, zf_c sg, zf_c ro, zf_n co, zf_c re, zf_n pi, zf_c nw, zf_c nx, zf_c ke) (nI a) (nI q) x v := by
  have e2 : zf_n sz (nI a).toNatClampNeg = nI (sz a) := zf_atn sz a rfl (by omega)
  have es : zf_c st (nI (4 * a + q)).toNatClampNeg = zf_I (st (4 * a + q)) := zf_at _ _ rfl (by omega)
  have ee : zf_c en (nI (4 * a + q)).toNatClampNeg = zf_I (en (4 * a + q)) := zf_at _ _ rfl (by omega)
  unfold wpX_mark
  refine zx_good ha (br_f (by decide) (br_f (nI_pos (by omega)) ⟨pk_in a 3 ha, pk_lt q (sz a) (fun _ => nm_r (zx_k4 _ _) (br_c (fun hx => ⟨pk_in (4 * a + q) 12 (by omega), ?_⟩) (fun hx => ⟨pk_in (4 * a + q) 12 (by omega), ?_⟩))) (fun z => by omega) rfl e2⟩))
  · rw [es]
    exact br_t hx (zx_modulo v ⟨pk_in (4 * a + q) 12 (by omega), nm_r (zf_upi _ (4 * a + q) _ rfl (by omega) rfl) (H0 hx)⟩)
  · rw [ee]
    exact br_f hx (zx_modulo v ⟨pk_in (4 * a + q) 12 (by omega), nm_r (zf_upi _ (4 * a + q) _ rfl (by omega) rfl) (H1 hx)⟩)
theorem zy_bs_t {post : Int32 → Prop} {a q : Nat} (ha : a < 3) (hn : sz a ≤ 4) (hq : q < sz a) (H : post 0) : wpY_badState post (zf_n sz, zf_c st, zf_c en, zf_c sp, zf_c yn, zf_c yl, zf_c yt) (nI a) (nI q) := by
  have e2 : zf_n sz (nI a).toNatClampNeg = nI (sz a) := zf_atn sz a rfl (by omega)
  exact br_f (nI_pos (by omega)) ⟨pk_in a 3 ha, pk_le (sz a) q (fun z => by omega) (fun _ => pk_le q 3 (fun _ => H) (fun z => by omega)) e2⟩
theorem zy_bs_f {post : Int32 → Prop} {a q : Nat} (ha : a < 3) (hn : sz a ≤ 4) (hq2 : q < 2147483648) (hq : sz a ≤ q) (H : post 1) : wpY_badState post (zf_n sz, zf_c st, zf_c en, zf_c sp, zf_c yn, zf_c yl, zf_c yt) (nI a) (nI q) := by
  have e2 : zf_n sz (nI a).toNatClampNeg = nI (sz a) := zf_atn sz a rfl (by omega)
  exact br_f (nI_pos (by omega)) ⟨pk_in a 3 ha, pk_le (sz a) q (fun _ => H) (fun z => by omega) e2⟩
theorem zy_mark {post : Int32 → SY → Prop} {a q : Nat} {x v : Int32} (ha : a < 3) (hn : sz a ≤ 4) (hq : q < sz a)
    (H0 : x = 0 → post (zf_I (st (4 * a + q))) (zf_n sz, zf_c (zf_u st (4 * a + q) (zf_red v)), zf_c en, zf_c sp, zf_c yn, zf_c yl, zf_c yt)) (H1 : ¬ x = 0 → post (zf_I (en (4 * a + q))) (zf_n sz, zf_c st, zf_c (zf_u en (4 * a + q) (zf_red v)), zf_c sp, zf_c yn, zf_c yl, zf_c yt)) : wpY_mark post (zf_n sz, zf_c st, zf_c en, zf_c sp, zf_c yn, zf_c yl, zf_c yt) (nI a) (nI q) x v := by
  have es : zf_c st (nI (4 * a + q)).toNatClampNeg = zf_I (st (4 * a + q)) := zf_at _ _ rfl (by omega)
  have ee : zf_c en (nI (4 * a + q)).toNatClampNeg = zf_I (en (4 * a + q)) := zf_at _ _ rfl (by omega)
  unfold wpY_mark
  refine zy_good ha (br_t rfl (zy_bs_t ha hn hq (br_t rfl (nm_r (zx_k4 _ _) (br_c (fun hx => ⟨pk_in (4 * a + q) 12 (by omega), ?_⟩) (fun hx => ⟨pk_in (4 * a + q) 12 (by omega), ?_⟩))))))
  · rw [es]
    exact br_t hx (zy_reduced v ⟨pk_in (4 * a + q) 12 (by omega), nm_r (zf_upi _ (4 * a + q) _ rfl (by omega) rfl) (H0 hx)⟩)
  · rw [ee]
    exact br_f hx (zy_reduced v ⟨pk_in (4 * a + q) 12 (by omega), nm_r (zf_upi _ (4 * a + q) _ rfl (by omega) rfl) (H1 hx)⟩)
/-! step -/
theorem zx_step {post : Int32 → SX → Prop} {a r : Nat} {v : Int32} (ha : a < 3) (hn : sz a ≤ 4) (hr : r < 32) (hg : r / 4 % 4 < sz a ∧ r % 4 < sz a)
    (H : post (zf_I (sp (32 * a + r))) (m, w, b, zf_n sz, zf_c st, zf_c en, zf_c (zf_u sp (32 * a + r) (zf_red v)), zf_n me, zf_c sg, zf_c ro, zf_n co, zf_c re, zf_n pi, zf_c nw, zf_c nx, zf_c ke)) : wpX_step post (m, w, b, zf_n sz, zf_c st, zf_c en, zf_c sp, zf_n me, zf_c sg, zf_c ro, zf_n co, zf_c re, zf_n pi, zf_c nw, zf_c nx, zf_c ke) (nI a) (nI r) v := by
  have e2 : zf_n sz (nI a).toNatClampNeg = nI (sz a) := zf_atn sz a rfl (by omega)
  unfold wpX_step
  exact zx_good ha (br_f (by decide) (nm_r (e' := nI (r / 4 % 4)) (by rw [zx_sh2 (by omega), zx_an3 (by omega)]) (nm_r (zx_an3 (by omega)) (br_f (nI_pos (by omega)) (pk_lt 31 r (fun z => by omega) (fun _ => ⟨pk_in a 3 ha, pk_le (sz a) (r / 4 % 4) (fun z => by omega) (fun _ => ⟨pk_in a 3 ha, pk_lt (r % 4) (sz a) (fun _ => ⟨pk_in (32 * a + r) 96 (by omega) (zx_k32 _ _), nm_r (zf_at sp _ (zx_k32 _ _) (by omega)) (zx_modulo v ⟨pk_in (32 * a + r) 96 (by omega) (zx_k32 _ _), nm_r (zf_upi _ (32 * a + r) _ (zx_k32 _ _) (by omega) rfl) H⟩)⟩) (fun z => by omega) rfl e2⟩) e2⟩))))))
theorem zx_step_f {post : Int32 → SX → Prop} {a r : Nat} {v : Int32} (ha : a < 3) (hn : sz a ≤ 4) (hr : r < 32) (hg : ¬ (r / 4 % 4 < sz a ∧ r % 4 < sz a)) (H : post (-2) (m, w, b, zf_n sz, zf_c st, zf_c en, zf_c sp, zf_n me, zf_c sg, zf_c ro, zf_n co, zf_c re, zf_n pi, zf_c nw, zf_c nx, zf_c ke)) : wpX_step post (m, w, b, zf_n sz, zf_c st, zf_c en, zf_c sp, zf_n me, zf_c sg, zf_c ro, zf_n co, zf_c re, zf_n pi, zf_c nw, zf_c nx, zf_c ke) (nI a) (nI r) v := by
  have e2 : zf_n sz (nI a).toNatClampNeg = nI (sz a) := zf_atn sz a rfl (by omega)
  unfold wpX_step
  exact zx_good ha (br_f (by decide) (nm_r (e' := nI (r / 4 % 4)) (by rw [zx_sh2 (by omega), zx_an3 (by omega)]) (nm_r (zx_an3 (by omega)) (br_f (nI_pos (by omega)) (pk_lt 31 r (fun z => by omega) (fun _ => ⟨pk_in a 3 ha, pk_le (sz a) (r / 4 % 4) (fun z => H) (fun _ => ⟨pk_in a 3 ha, pk_lt (r % 4) (sz a) (fun z => by omega) (fun z => H) rfl e2⟩) e2⟩))))))
theorem zx_y4 {r : Nat} (hr : r < 32) : (nI r / 4) - (nI r / 4) / 4 * 4 = nI (r / 4 % 4) := by
  have k2 : nI r / 4 = nI (r / 4) := pk_div (d := 4) (by omega) (by decide) (by decide)
  rw [k2]
  exact pk_rem (d := 4) (by omega) (by decide) (by decide)
theorem zy_step {post : Int32 → SY → Prop} {a r : Nat} {v : Int32} (ha : a < 3) (hn : sz a ≤ 4) (hr : r < 32) (hg : r / 4 % 4 < sz a ∧ r % 4 < sz a)
    (H : post (zf_I (sp (32 * a + r))) (zf_n sz, zf_c st, zf_c en, zf_c (zf_u sp (32 * a + r) (zf_red v)), zf_c yn, zf_c yl, zf_c yt)) : wpY_step post (zf_n sz, zf_c st, zf_c en, zf_c sp, zf_c yn, zf_c yl, zf_c yt) (nI a) (nI r) v := by
  have k1 : nI r - nI r / 4 * 4 = nI (r % 4) := pk_rem (d := 4) (by omega) (by decide) (by decide)
  unfold wpY_step
  refine zy_good ha (br_t rfl (br_f (nI_pos (by omega)) (pk_le r 31 (fun _ => ⟨by decide, by decide, ?_⟩) (fun z => by omega))))
  rw [zx_y4 hr]
  refine zy_bs_t ha hn hg.1 (br_t rfl ⟨by decide, ?_⟩)
  rw [k1]
  exact zy_bs_t ha hn hg.2 (br_t rfl ⟨pk_in (32 * a + r) 96 (by omega) (zx_k32 _ _), nm_r (zf_at sp _ (zx_k32 _ _) (by omega)) (zy_reduced v ⟨pk_in (32 * a + r) 96 (by omega) (zx_k32 _ _), nm_r (zf_upi _ (32 * a + r) _ (zx_k32 _ _) (by omega) rfl) H⟩)⟩)
theorem zy_step_f {post : Int32 → SY → Prop} {a r : Nat} {v : Int32} (ha : a < 3) (hn : sz a ≤ 4) (hr : r < 32) (hg : ¬ (r / 4 % 4 < sz a ∧ r % 4 < sz a)) (H : post (-2) (zf_n sz, zf_c st, zf_c en, zf_c sp, zf_c yn, zf_c yl, zf_c yt)) : wpY_step post (zf_n sz, zf_c st, zf_c en, zf_c sp, zf_c yn, zf_c yl, zf_c yt) (nI a) (nI r) v := by
  have k1 : nI r - nI r / 4 * 4 = nI (r % 4) := pk_rem (d := 4) (by omega) (by decide) (by decide)
  unfold wpY_step
  refine zy_good ha (br_t rfl (br_f (nI_pos (by omega)) (pk_le r 31 (fun _ => ⟨by decide, by decide, ?_⟩) (fun z => by omega))))
  rw [zx_y4 hr]
  by_cases h1 : r / 4 % 4 < sz a
  · refine zy_bs_t ha hn h1 (br_t rfl ⟨by decide, ?_⟩)
    rw [k1]
    exact zy_bs_f ha hn (by omega) (by omega) (br_f (by decide) H)
  · exact zy_bs_f ha hn (by omega) (by omega) (br_f (by decide) H)
end
end
section
/-! the automata stay in form -/
theorem zm_ok_sp {sz : Nat → Nat} {st en sp : Nat → zf_F} (ok : zm_OK sz st en sp) {a r : Nat} (ha : a < 3) (hr : r < 32) (h : sz a ≤ r / 4 % 4 ∨ sz a ≤ r % 4) : sp (32 * a + r) = 0 := by
  have := ok.2.2 a (r / 16) (r / 4 % 4) (r % 4) ha (by omega) (by omega) (by omega) h
  rw [show 32 * a + 16 * (r / 16) + 4 * (r / 4 % 4) + r % 4 = 32 * a + r by omega] at this
  exact this
theorem zm_OK_put {sz sz' : Nat → Nat} {st en sp st' en' sp' : Nat → zf_F} (ok : zm_OK sz st en sp) {a : Nat} (hs : ∀ c, c < 3 → c ≠ a → sz' c = sz c) (hn : 1 ≤ sz' a ∧ sz' a ≤ 4)
    (h1 : ∀ c q, c < 3 → c ≠ a → q < 4 → st' (4 * c + q) = st (4 * c + q) ∧ en' (4 * c + q) = en (4 * c + q)) (h2 : ∀ c r, c < 3 → c ≠ a → r < 32 → sp' (32 * c + r) = sp (32 * c + r))
    (h3 : ∀ q, q < 4 → sz' a ≤ q → st' (4 * a + q) = 0 ∧ en' (4 * a + q) = 0) (h4 : ∀ r, r < 32 → (sz' a ≤ r / 4 % 4 ∨ sz' a ≤ r % 4) → sp' (32 * a + r) = 0) : zm_OK sz' st' en' sp' := by
  refine ⟨fun c hc => ?_, fun c q hc hq h => ?_, fun c l p q hc hl hp hq h => ?_⟩
  · by_cases e : c = a
    · subst e; exact hn
    · rw [hs c hc e]; exact ok.1 c hc
  · by_cases e : c = a
    · subst e; exact h3 q hq h
    · rw [hs c hc e] at h
      have := h1 c q hc e hq
      have h5 := ok.2.1 c q hc hq h
      exact ⟨this.1.trans h5.1, this.2.trans h5.2⟩
  · rw [show 32 * c + 16 * l + 4 * p + q = 32 * c + (16 * l + 4 * p + q) by omega]
    have e1 : (16 * l + 4 * p + q) / 4 % 4 = p := by omega
    have e2 : (16 * l + 4 * p + q) % 4 = q := by omega
    by_cases e : c = a
    · subst e
      exact h4 _ (by omega) (by rw [e1, e2]; exact h)
    · rw [h2 c _ hc e (by omega)]
      rw [hs c hc e] at h
      exact zm_ok_sp ok hc (by omega) (by rw [e1, e2]; exact h)
theorem zm_OK_size {sz : Nat → Nat} {st en sp : Nat → zf_F} (ok : zm_OK sz st en sp) {a n : Nat} (h1 : 1 ≤ n) (h4 : n ≤ 4) : zm_OK (zf_u sz a n) (zm_zr 4 a st) (zm_zr 4 a en) (zm_zr 32 a sp) := by
  refine zm_OK_put ok (fun c _ h => zf_un h) (by rw [zf_us]; exact ⟨h1, h4⟩) (fun c q _ h hq => ⟨zm_pw_at hq (Or.inl h), zm_pw_at hq (Or.inl h)⟩) (fun c r _ h hr => zm_pw_at hr (Or.inl h)) (fun q hq _ => ⟨?_, ?_⟩) (fun r hr _ => ?_)
  · unfold zm_zr; rw [zm_pw_in hq, if_pos rfl]
  · unfold zm_zr; rw [zm_pw_in hq, if_pos rfl]
  · unfold zm_zr; rw [zm_pw_in hr, if_pos rfl]
theorem zm_OK_scale {sz : Nat → Nat} {st en sp : Nat → zf_F} (ok : zm_OK sz st en sp) {a c : Nat} (hc : c < 3) (y : zf_F) : zm_OK (zf_u sz a (sz c)) (zm_cm a c y st) (zm_cp 4 a c en) (zm_cp 32 a c sp) := by
  refine zm_OK_put ok (fun c _ h => zf_un h) (by rw [zf_us]; exact ok.1 c hc) (fun c q _ h hq => ⟨zm_pw_at hq (Or.inl h), zm_pw_at hq (Or.inl h)⟩) (fun c r _ h hr => zm_pw_at hr (Or.inl h)) (fun q hq h => ?_) (fun r hr h => ?_)
  · rw [zf_us] at h
    have := ok.2.1 c q hc hq h
    unfold zm_cm zm_cp
    rw [zm_pw_in hq, if_pos rfl, zm_pw_in hq, if_pos rfl, this.1, this.2, Fin.zero_mul]
    exact ⟨rfl, rfl⟩
  · rw [zf_us] at h
    unfold zm_cp
    rw [zm_pw_in hr, if_pos rfl]
    exact zm_ok_sp ok hc hr h
theorem zm_OK_fill {sz sz' : Nat → Nat} {st en sp v1 v2 v3 : Nat → zf_F} {P : Nat → Bool} (ok : zm_OK sz st en sp) {a : Nat} (ha : a < 3) (hs : sz' = sz) (hP : ∀ k, P k = true ↔ k < sz a) : zm_OK sz' (zm_pw 4 a P v1 st) (zm_pw 4 a P v2 en) (zm_pw 32 a (zm_gd (sz a)) v3 sp) := by
  subst hs
  refine zm_OK_put ok (fun c _ _ => rfl) (ok.1 a ha) (fun c q _ h hq => ⟨zm_pw_at hq (Or.inl h), zm_pw_at hq (Or.inl h)⟩) (fun c r _ h hr => zm_pw_at hr (Or.inl h)) (fun q hq h => ?_) (fun r hr h => ?_)
  · have := ok.2.1 a q ha hq h
    have hp : ¬ P q = true := fun z => by have := (hP q).mp z; omega
    rw [zm_pw_in hq, if_neg hp, zm_pw_in hq, if_neg hp]
    exact this
  · rw [zm_pw_in hr, if_neg (by unfold zm_gd; simp only [decide_eq_true_eq]; omega)]
    exact zm_ok_sp ok ha hr h
theorem zm_OK_mark0 {sz : Nat → Nat} {st en sp : Nat → zf_F} (ok : zm_OK sz st en sp) {a q : Nat} (ha : a < 3) (hq : q < sz a) (y : zf_F) : zm_OK sz (zf_u st (4 * a + q) y) en sp := by
  have hn := (ok.1 a ha).2
  refine ⟨ok.1, fun c q' hc hq' h => ?_, ok.2.2⟩
  have := ok.2.1 c q' hc hq' h
  refine ⟨?_, this.2⟩
  rw [zf_un]
  · exact this.1
  · intro z
    have : c = a := by omega
    subst this
    omega
theorem zm_OK_mark1 {sz : Nat → Nat} {st en sp : Nat → zf_F} (ok : zm_OK sz st en sp) {a q : Nat} (ha : a < 3) (hq : q < sz a) (y : zf_F) : zm_OK sz st (zf_u en (4 * a + q) y) sp := by
  have hn := (ok.1 a ha).2
  refine ⟨ok.1, fun c q' hc hq' h => ?_, ok.2.2⟩
  have := ok.2.1 c q' hc hq' h
  refine ⟨this.1, ?_⟩
  rw [zf_un]
  · exact this.2
  · intro z
    have : c = a := by omega
    subst this
    omega
theorem zm_OK_step {sz : Nat → Nat} {st en sp : Nat → zf_F} (ok : zm_OK sz st en sp) {a r : Nat} (ha : a < 3) (hr : r < 32) (hg : r / 4 % 4 < sz a ∧ r % 4 < sz a) (y : zf_F) : zm_OK sz st en (zf_u sp (32 * a + r) y) := by
  refine ⟨ok.1, ok.2.1, fun c l p q hc hl hp hq h => ?_⟩
  rw [zf_un]
  · exact ok.2.2 c l p q hc hl hp hq h
  · intro z
    have e : c = a := by omega
    subst e
    have : r = 16 * l + 4 * p + q := by omega
    subst this
    omega
/-! the relation -/
def zx_S (sz : Nat → Nat) (st en sp : Nat → zf_F) (u : SX) : Prop := ∃ (m w b : Int32) (me : Nat → Nat) (sg ro : Nat → zf_F) (co : Nat → Nat) (re : Nat → zf_F) (pi : Nat → Nat) (nw nx ke : Nat → zf_F), zx_P nw ∧ zx_P nx ∧ u = (m, w, b, zf_n sz, zf_c st, zf_c en, zf_c sp, zf_n me, zf_c sg, zf_c ro, zf_n co, zf_c re, zf_n pi, zf_c nw, zf_c nx, zf_c ke)
def zy_S (sz : Nat → Nat) (st en sp : Nat → zf_F) (v : SY) : Prop := ∃ yn yl yt : Nat → zf_F, zy_P yn ∧ v = (zf_n sz, zf_c st, zf_c en, zf_c sp, zf_c yn, zf_c yl, zf_c yt)
/-- both hold the same three automata, in form; all else is free but for the rests of the rows at hand -/
def i_Rel (k : Nat) (u : SX) (v : SY) : Prop := ∃ (sz : Nat → Nat) (st en sp : Nat → zf_F), zm_OK sz st en sp ∧ zx_S sz st en sp u ∧ zy_S sz st en sp v
theorem i_up {k : Nat} {u : SX} {v : SY} (h : i_Rel k u v) : i_Rel (k + 5) u v := h
theorem zr_rel {k : Nat} {m w b : Int32} {sz : Nat → Nat} {st en sp : Nat → zf_F} {me : Nat → Nat} {sg ro : Nat → zf_F} {co : Nat → Nat} {re : Nat → zf_F} {pi : Nat → Nat} {nw nx ke : Nat → zf_F} {yn yl yt : Nat → zf_F} (ok : zm_OK sz st en sp) (hw : zx_P nw) (hx : zx_P nx) (hy : zy_P yn) : i_Rel k (m, w, b, zf_n sz, zf_c st, zf_c en, zf_c sp, zf_n me, zf_c sg, zf_c ro, zf_n co, zf_c re, zf_n pi, zf_c nw, zf_c nx, zf_c ke) (zf_n sz, zf_c st, zf_c en, zf_c sp, zf_c yn, zf_c yl, zf_c yt) :=
  ⟨sz, st, en, sp, ok, ⟨m, w, b, me, sg, ro, co, re, pi, nw, nx, ke, hw, hx, rfl⟩, ⟨yn, yl, yt, hy, rfl⟩⟩
theorem zr_el {k : Nat} {u : SX} {v : SY} {P : SX → SY → Prop} (I : i_Rel k u v) (h : ∀ (m w b : Int32) (sz : Nat → Nat) (st en sp : Nat → zf_F) (me : Nat → Nat) (sg ro : Nat → zf_F) (co : Nat → Nat) (re : Nat → zf_F) (pi : Nat → Nat) (nw nx ke yn yl yt : Nat → zf_F), zm_OK sz st en sp → zx_P nw → zx_P nx → zy_P yn → P (m, w, b, zf_n sz, zf_c st, zf_c en, zf_c sp, zf_n me, zf_c sg, zf_c ro, zf_n co, zf_c re, zf_n pi, zf_c nw, zf_c nx, zf_c ke) (zf_n sz, zf_c st, zf_c en, zf_c sp, zf_c yn, zf_c yl, zf_c yt)) : P u v := by
  obtain ⟨sz, st, en, sp, ok, ⟨m, w, b, me, sg, ro, co, re, pi, nw, nx, ke, hw, hx, rfl⟩, ⟨yn, yl, yt, hy, rfl⟩⟩ := I
  exact h m w b sz st en sp me sg ro co re pi nw nx ke yn yl yt ok hw hx hy
theorem zr_case (v : Int32) : (v < 0 ∨ nI 3 ≤ v) ∨ ∃ a, a < 3 ∧ v = nI a := by
  rcases pk_ix v (n := 3) (by decide) with h | h | h
  · exact Or.inl (Or.inl h)
  · exact Or.inl (Or.inr h)
  · exact Or.inr h
/-! the constructors -/
def zm_i0 (i : Nat) : Nat → Nat := fun j => if j < i then 1 else 0
theorem zm_i0_s (i : Nat) : zf_u (zm_i0 i) i 1 = zm_i0 (i + 1) := by
  funext j
  unfold zm_i0
  by_cases h : j = i
  · subst h; rw [zf_us, if_pos (by omega)]
  · rw [zf_un h]
    by_cases h2 : j < i
    · rw [if_pos h2, if_pos (by omega)]
    · rw [if_neg h2, if_neg (by omega)]
theorem zx_init {post : SX → Prop} (H : post (0, 0, 0, zf_n (zm_i0 3), zf_c (fun _ => 0), zf_c (fun _ => 0), zf_c (fun _ => 0), zf_n (fun _ => 0), zf_c (fun _ => 0), zf_c (fun _ => 0), zf_n (fun _ => 0), zf_c (fun _ => 0), zf_n (fun _ => 0), zf_c (fun _ => 0), zf_c (fun _ => 0), zf_c (fun _ => 0))) : wpX_init post := by
  refine loop_0 (fun n i s => wX_init_109 post 0 0 0 n (nI i) (zf_n s) (zf_c (fun _ => 0)) (zf_c (fun _ => 0)) (zf_c (fun _ => 0)) (zf_n (fun _ => 0)) (zf_c (fun _ => 0)) (zf_c (fun _ => 0)) (zf_n (fun _ => 0)) (zf_c (fun _ => 0)) (zf_n (fun _ => 0)) (zf_c (fun _ => 0)) (zf_c (fun _ => 0)) (zf_c (fun _ => 0))) (fun i s => s = zm_i0 i) 3 (fun _ => 0) (funext fun j => (if_neg (by omega)).symm) (fun n s hI => ?_) (fun n i s hi hI ih => ?_)
  · subst hI
    exact pk_le 3 3 (fun _ => H) (fun z => by omega)
  · subst hI
    exact pk_le 3 i (fun z => by omega) (fun _ => ⟨pk_in i 3 hi, nm_r (zf_upni _ i 1 rfl (by omega) rfl) (nm_r (nI_1 i) (ih _ (zm_i0_s i)))⟩)
theorem zy_init {post : SY → Prop} (H : post (zf_n (zm_i0 3), zf_c (fun _ => 0), zf_c (fun _ => 0), zf_c (fun _ => 0), zf_c (fun _ => 0), zf_c (fun _ => 0), zf_c (fun _ => 0))) : wpY_init post := by
  refine loop_0 (fun n i s => wY_init_60 post n (nI i) (zf_n s) (zf_c (fun _ => 0)) (zf_c (fun _ => 0)) (zf_c (fun _ => 0)) (zf_c (fun _ => 0)) (zf_c (fun _ => 0)) (zf_c (fun _ => 0))) (fun i s => s = zm_i0 i) 3 (fun _ => 0) (funext fun j => (if_neg (by omega)).symm) (fun n s hI => ?_) (fun n i s hi hI ih => ?_)
  · subst hI
    exact pk_le 3 3 (fun _ => H) (fun z => by omega)
  · subst hI
    exact pk_le 3 i (fun z => by omega) (fun _ => ⟨pk_in i 3 hi, nm_r (zf_upni _ i 1 rfl (by omega) rfl) (nm_r (nI_1 i) (ih _ (zm_i0_s i)))⟩)
theorem i_vc0 : wpX_init (fun u => wpY_init (fun v => i_Rel 0 u v)) := by
  refine zx_init (zy_init (zr_rel ⟨fun a ha => ?_, fun a q _ _ _ => ⟨rfl, rfl⟩, fun a l p q _ _ _ _ _ => rfl⟩ (fun j _ => rfl) (fun j _ => rfl) (fun j _ => rfl)))
  have : zm_i0 3 a = 1 := if_pos ha
  omega
end
section
theorem zr_n0 {v : Int32} (h : ¬ v < 1) : ¬ v < 0 := fun z => h (Int32.lt_trans z (by decide))
theorem i_vc_size {k : Nat} {u : SX} {v : SY} (I : i_Rel k u v) (hk : k + 5 ≤ 2560) (v1 : Int32) (v2 : Int32) : wpX_size (fun r u' => wpY_size (fun r' v' => r' = r ∧ i_Rel (k + 5) u' v') v v1 v2) u v1 v2 := by
  refine zr_el (P := fun u v => wpX_size (fun r u' => wpY_size (fun r' v' => r' = r ∧ i_Rel (k + 5) u' v') v v1 v2) u v1 v2) I ?_
  intro m w b sz st en sp me sg ro co re pi nw nx ke yn yl yt ok hw hx hy
  rcases zr_case v1 with hb | ⟨a, ha, rfl⟩
  · unfold wpX_size
    refine zx_bad hb (br_t rfl ?_)
    unfold wpY_size
    exact zy_bad hb (br_f (by decide) ⟨rfl, zr_rel ok hw hx hy⟩)
  · by_cases h1 : v2 < 1
    · unfold wpX_size
      refine zx_good ha (br_f (by decide) (br_t h1 ?_))
      unfold wpY_size
      exact zy_good ha (br_t rfl (br_t h1 ⟨rfl, zr_rel ok hw hx hy⟩))
    · by_cases h4 : v2 ≤ 4
      · obtain ⟨n, hn, rfl⟩ := nI_of2 (M := 4) (n := 4) (by decide) (zr_n0 h1) h4
        have h0 : 1 ≤ n := by
          apply Classical.byContradiction
          intro z
          exact h1 (nI_lt (b := 1) (by omega) (by decide))
        exact zx_size ha h0 hn (zy_size ha h0 hn ⟨rfl, zr_rel (zm_OK_size ok h0 hn) hw hx hy⟩)
      · unfold wpX_size
        refine zx_good ha (br_f (by decide) (br_f h1 (br_f h4 ?_)))
        unfold wpY_size
        exact zy_good ha (br_t rfl (br_f h1 (br_f h4 ⟨rfl, zr_rel ok hw hx hy⟩)))
theorem i_vc_mark {k : Nat} {u : SX} {v : SY} (I : i_Rel k u v) (hk : k + 5 ≤ 2560) (v1 : Int32) (v2 : Int32) (v3 : Int32) (v4 : Int32) : wpX_mark (fun r u' => wpY_mark (fun r' v' => r' = r ∧ i_Rel (k + 5) u' v') v v1 v2 v3 v4) u v1 v2 v3 v4 := by
  refine zr_el (P := fun u v => wpX_mark (fun r u' => wpY_mark (fun r' v' => r' = r ∧ i_Rel (k + 5) u' v') v v1 v2 v3 v4) u v1 v2 v3 v4) I ?_
  intro m w b sz st en sp me sg ro co re pi nw nx ke yn yl yt ok hw hx hy
  rcases zr_case v1 with hb | ⟨a, ha, rfl⟩
  · unfold wpX_mark
    refine zx_bad hb (br_t rfl ?_)
    unfold wpY_mark
    exact zy_bad hb (br_f (by decide) ⟨rfl, zr_rel ok hw hx hy⟩)
  · have hn := (ok.1 a ha).2
    by_cases h0 : v2 < 0
    · unfold wpX_mark
      refine zx_good ha (br_f (by decide) (br_t h0 ?_))
      unfold wpY_mark
      refine zy_good ha (br_t rfl ?_)
      exact br_t h0 (br_f (by decide) ⟨rfl, zr_rel ok hw hx hy⟩)
    · obtain ⟨q, hq, rfl⟩ := nI_of h0
      by_cases h1 : q < sz a
      · refine zx_mark ha hn h1 (fun z => ?_) (fun z => ?_)
        · refine zy_mark ha hn h1 (fun _ => ⟨rfl, zr_rel (zm_OK_mark0 ok ha h1 _) hw hx hy⟩) (fun y => absurd z y)
        · refine zy_mark ha hn h1 (fun y => absurd y z) (fun _ => ⟨rfl, zr_rel (zm_OK_mark1 ok ha h1 _) hw hx hy⟩)
      · unfold wpX_mark
        refine zx_good ha (br_f (by decide) (br_f h0 ⟨pk_in a 3 ha, pk_lt q (sz a) (fun z => absurd z h1) (fun _ => ?_) rfl (zf_atn sz a rfl (by omega))⟩))
        unfold wpY_mark
        exact zy_good ha (br_t rfl (zy_bs_f ha hn hq (by omega) (br_f (by decide) ⟨rfl, zr_rel ok hw hx hy⟩)))
theorem i_vc_step {k : Nat} {u : SX} {v : SY} (I : i_Rel k u v) (hk : k + 5 ≤ 2560) (v1 : Int32) (v2 : Int32) (v3 : Int32) : wpX_step (fun r u' => wpY_step (fun r' v' => r' = r ∧ i_Rel (k + 5) u' v') v v1 v2 v3) u v1 v2 v3 := by
  refine zr_el (P := fun u v => wpX_step (fun r u' => wpY_step (fun r' v' => r' = r ∧ i_Rel (k + 5) u' v') v v1 v2 v3) u v1 v2 v3) I ?_
  intro m w b sz st en sp me sg ro co re pi nw nx ke yn yl yt ok hw hx hy
  rcases zr_case v1 with hb | ⟨a, ha, rfl⟩
  · unfold wpX_step
    refine zx_bad hb (br_t rfl ?_)
    unfold wpY_step
    exact zy_bad hb (br_f (by decide) ⟨rfl, zr_rel ok hw hx hy⟩)
  · have hn := (ok.1 a ha).2
    by_cases h0 : v2 < 0
    · unfold wpX_step
      refine zx_good ha (br_f (by decide) (nm_e (nm_e (br_t h0 ?_))))
      unfold wpY_step
      exact zy_good ha (br_t rfl (br_t h0 ⟨rfl, zr_rel ok hw hx hy⟩))
    · obtain ⟨r, hr, rfl⟩ := nI_of h0
      by_cases h1 : r < 32
      · by_cases hg : r / 4 % 4 < sz a ∧ r % 4 < sz a
        · exact zx_step ha hn h1 hg (zy_step ha hn h1 hg ⟨rfl, zr_rel (zm_OK_step ok ha h1 hg _) hw hx hy⟩)
        · exact zx_step_f ha hn h1 hg (zy_step_f ha hn h1 hg ⟨rfl, zr_rel ok hw hx hy⟩)
      · unfold wpX_step
        refine zx_good ha (br_f (by decide) (nm_e (nm_e (br_f h0 (pk_lt 31 r (fun _ => ?_) (fun z => by omega))))))
        unfold wpY_step
        exact zy_good ha (br_t rfl (br_f h0 (pk_le r 31 (fun z => by omega) (fun _ => ⟨rfl, zr_rel ok hw hx hy⟩))))
theorem i_vc_weave {k : Nat} {u : SX} {v : SY} (I : i_Rel k u v) (hk : k + 5 ≤ 2560) (v1 : Int32) (v2 : Int32) : wpX_weave (fun r u' => wpY_weave (fun r' v' => r' = r ∧ i_Rel (k + 5) u' v') v v1 v2) u v1 v2 := by
  refine zr_el (P := fun u v => wpX_weave (fun r u' => wpY_weave (fun r' v' => r' = r ∧ i_Rel (k + 5) u' v') v v1 v2) u v1 v2) I ?_
  intro m w b sz st en sp me sg ro co re pi nw nx ke yn yl yt ok hw hx hy
  rcases zr_case v1 with hb | ⟨a, ha, rfl⟩
  · unfold wpX_weave
    refine zx_bad hb (br_t rfl ?_)
    unfold wpY_weave
    exact zy_bad hb (br_f (by decide) ⟨rfl, zr_rel ok hw hx hy⟩)
  · have hn := (ok.1 a ha).2
    by_cases h0 : v2 < 0
    · unfold wpX_weave
      refine zx_good ha (br_f (by decide) (br_t h0 ?_))
      unfold wpY_weave
      exact zy_good ha (br_t rfl (br_t h0 ⟨rfl, zr_rel ok hw hx hy⟩))
    · obtain ⟨sd, hs, rfl⟩ := nI_of h0
      by_cases h1 : sd < 997
      · exact zx_weave ha hn h1 (zy_weave ha hn h1 ⟨rfl, zr_rel (zm_OK_fill ok ha rfl (fun k => by simp only [decide_eq_true_eq])) hw hx hy⟩)
      · unfold wpX_weave
        refine zx_good ha (br_f (by decide) (br_f h0 (pk_lt sd 997 (fun z => absurd z h1) (fun _ => ?_))))
        unfold wpY_weave
        exact zy_good ha (br_t rfl (br_f h0 (pk_le sd 996 (fun z => by omega) (fun _ => ⟨rfl, zr_rel ok hw hx hy⟩))))
theorem i_vc_mirror {k : Nat} {u : SX} {v : SY} (I : i_Rel k u v) (hk : k + 5 ≤ 2560) (v1 : Int32) (v2 : Int32) : wpX_mirror (fun r u' => wpY_mirror (fun r' v' => r' = r ∧ i_Rel (k + 5) u' v') v v1 v2) u v1 v2 := by
  refine zr_el (P := fun u v => wpX_mirror (fun r u' => wpY_mirror (fun r' v' => r' = r ∧ i_Rel (k + 5) u' v') v v1 v2) u v1 v2) I ?_
  intro m w b sz st en sp me sg ro co re pi nw nx ke yn yl yt ok hw hx hy
  rcases zr_case v1 with hb | ⟨a, ha, rfl⟩
  · unfold wpX_mirror
    refine zx_bad hb (br_t rfl ?_)
    unfold wpY_mirror
    exact zy_bad hb (br_f (by decide) ⟨rfl, zr_rel ok hw hx hy⟩)
  · rcases zr_case v2 with hb | ⟨c, hc, rfl⟩
    · unfold wpX_mirror
      refine zx_good ha (br_f (by decide) (zx_bad hb (br_t rfl ?_)))
      unfold wpY_mirror
      exact zy_good ha (br_t rfl (zy_bad hb (br_f (by decide) ⟨rfl, zr_rel ok hw hx hy⟩)))
    · by_cases e : c = a
      · subst e
        unfold wpX_mirror
        refine zx_good ha (br_f (by decide) (zx_good ha (br_f (by decide) (br_t rfl ?_))))
        unfold wpY_mirror
        exact zy_good ha (br_t rfl (zy_good ha (br_t rfl (br_t rfl ⟨rfl, zr_rel ok hw hx hy⟩))))
      · have h1 := ok.1 c hc
        have ok' := zm_OK_size ok (a := a) h1.1 h1.2
        have es : zf_u sz a (sz c) a = sz c := zf_us
        have ok'' := zm_OK_fill ok' ha (sz' := zf_u sz a (sz c)) (v1 := fun k => zm_zr 4 a st (4 * c + (sz c - 1 - k))) (v2 := fun k => zm_zr 4 a en (4 * c + (sz c - 1 - k))) (v3 := fun k => zm_zr 32 a sp (32 * c + zm_mr (sz c) k)) (P := fun k => decide (k < sz c)) rfl (fun k => by rw [es]; simp only [decide_eq_true_eq])
        rw [es] at ok''
        exact zx_mirror ha hc e h1.1 h1.2 (zy_mirror ha hc e h1.1 h1.2 ⟨rfl, zr_rel ok'' hw hx hy⟩)
theorem i_vc_scale {k : Nat} {u : SX} {v : SY} (I : i_Rel k u v) (hk : k + 5 ≤ 2560) (v1 : Int32) (v2 : Int32) (v3 : Int32) : wpX_scale (fun r u' => wpY_scale (fun r' v' => r' = r ∧ i_Rel (k + 5) u' v') v v1 v2 v3) u v1 v2 v3 := by
  refine zr_el (P := fun u v => wpX_scale (fun r u' => wpY_scale (fun r' v' => r' = r ∧ i_Rel (k + 5) u' v') v v1 v2 v3) u v1 v2 v3) I ?_
  intro m w b sz st en sp me sg ro co re pi nw nx ke yn yl yt ok hw hx hy
  rcases zr_case v1 with hb | ⟨a, ha, rfl⟩
  · unfold wpX_scale
    refine zx_bad hb (br_t rfl ?_)
    unfold wpY_scale
    exact zy_bad hb (br_f (by decide) ⟨rfl, zr_rel ok hw hx hy⟩)
  · rcases zr_case v2 with hb | ⟨c, hc, rfl⟩
    · unfold wpX_scale
      refine zx_good ha (br_f (by decide) (zx_bad hb (br_t rfl ?_)))
      unfold wpY_scale
      exact zy_good ha (br_t rfl (zy_bad hb (br_f (by decide) ⟨rfl, zr_rel ok hw hx hy⟩)))
    · exact zx_scale v3 ha hc (zy_scale v3 ha hc ⟨rfl, zr_rel (zm_OK_scale ok hc _) hw hx hy⟩)
theorem i_vc_states {k : Nat} {u : SX} {v : SY} (I : i_Rel k u v) (hk : k + 5 ≤ 2560) (v1 : Int32) : wpX_states (fun r => wpY_states (fun r' => r' = r ∧ i_Rel (k + 5) u v) v v1) u v1 := by
  refine zr_el (P := fun u v => wpX_states (fun r => wpY_states (fun r' => r' = r ∧ i_Rel (k + 5) u v) v v1) u v1) I ?_
  intro m w b sz st en sp me sg ro co re pi nw nx ke yn yl yt ok hw hx hy
  rcases zr_case v1 with hb | ⟨a, ha, rfl⟩
  · unfold wpX_states
    refine zx_bad hb (br_t rfl ?_)
    unfold wpY_states
    exact zy_bad hb (br_f (by decide) ⟨rfl, zr_rel ok hw hx hy⟩)
  · unfold wpX_states
    refine zx_good ha (br_f (by decide) ⟨pk_in a 3 ha, ?_⟩)
    unfold wpY_states
    exact zy_good ha (br_t rfl ⟨pk_in a 3 ha, rfl, zr_rel ok hw hx hy⟩)
end
section
theorem zr_me2 {me : Nat → Nat} {a c : Nat} (ha : a < 3) (hc : c < 3) : ∀ i, i < 2 → zf_u (zf_u me 0 a) 1 c i < 3 := by
  intro i hi
  by_cases h : i = 1
  · subst h; rw [zf_us]; exact hc
  · have : i = 0 := by omega
    subst this
    rw [zf_un (by decide), zf_us]; exact ha
theorem zr_me3 {me : Nat → Nat} {a c d : Nat} (ha : a < 3) (hc : c < 3) (hd : d < 3) : ∀ i, i < 3 → zf_u (zf_u (zf_u me 0 a) 1 c) 2 d i < 3 := by
  intro i hi
  by_cases h : i = 2
  · subst h; rw [zf_us]; exact hd
  · rw [zf_un h]; exact zr_me2 ha hc i (by omega)
theorem zr_me1 {me : Nat → Nat} {a : Nat} (ha : a < 3) : ∀ i, i < 1 → zf_u me 0 a i < 3 := by
  intro i hi
  have : i = 0 := by omega
  subst this
  rw [zf_us]; exact ha
theorem zm_Res_lt {vl : Nat → zf_F} {N c : Nat} (hN : 0 < N) (h : zm_Res vl N c) : c < N := by
  rcases h with ⟨rfl, _⟩ | h
  · exact hN
  · exact h.2.1
theorem i_vc_weight {k : Nat} {u : SX} {v : SY} (I : i_Rel k u v) (hk : k + 5 ≤ 2560) (v1 : Int32) (v2 : Int32) : wpX_weight (fun r u' => wpY_weight (fun r' v' => r' = r ∧ i_Rel (k + 5) u' v') v v1 v2) u v1 v2 := by
  refine zr_el (P := fun u v => wpX_weight (fun r u' => wpY_weight (fun r' v' => r' = r ∧ i_Rel (k + 5) u' v') v v1 v2) u v1 v2) I ?_
  intro m w b sz st en sp me sg ro co re pi nw nx ke yn yl yt ok hw hx hy
  rcases zr_case v1 with hb | ⟨a, ha, rfl⟩
  · unfold wpX_weight
    refine zx_bad hb (br_t rfl ?_)
    unfold wpY_weight
    exact zy_bad hb (br_f (by decide) ⟨rfl, zr_rel ok hw hx hy⟩)
  · by_cases h1 : v2 < 1
    · unfold wpX_weight
      refine zx_good ha (br_f (by decide) (br_t h1 ?_))
      unfold wpY_weight
      exact zy_good ha (br_t rfl (br_t h1 ⟨rfl, zr_rel ok hw hx hy⟩))
    · obtain ⟨c, hc, rfl⟩ := nI_of (zr_n0 h1)
      have h0 : 1 ≤ c := by
        apply Classical.byContradiction
        intro z
        exact h1 (nI_lt (b := 1) (by omega) (by decide))
      by_cases h2 : c < 1024
      · refine zx_weight ha ok h0 h2 hw hx (fun me sg nw nx em es hw hx => ?_)
        rw [zm_vl_1 st en sp em es c h0]
        unfold wpY_weight
        refine zy_good ha (br_t rfl (br_f h1 (pk_le c 1023 (fun _ => ?_) (fun z => by omega))))
        exact zy_worth ha h0 (by omega) hy (fun yl yn hy => ⟨rfl, zr_rel ok hw hx hy⟩)
      · unfold wpX_weight
        refine zx_good ha (br_f (by decide) (br_f h1 (pk_le c 1023 (fun z => by omega) (fun _ => ?_))))
        unfold wpY_weight
        exact zy_good ha (br_t rfl (br_f h1 (pk_le c 1023 (fun z => by omega) (fun _ => ⟨rfl, zr_rel ok hw hx hy⟩))))
theorem i_vc_equivalent {k : Nat} {u : SX} {v : SY} (I : i_Rel k u v) (hk : k + 5 ≤ 2560) (v1 : Int32) (v2 : Int32) : wpX_equivalent (fun r u' => wpY_equivalent (fun r' v' => r' = r ∧ i_Rel (k + 5) u' v') v v1 v2) u v1 v2 := by
  refine zr_el (P := fun u v => wpX_equivalent (fun r u' => wpY_equivalent (fun r' v' => r' = r ∧ i_Rel (k + 5) u' v') v v1 v2) u v1 v2) I ?_
  intro m w b sz st en sp me sg ro co re pi nw nx ke yn yl yt ok hw hx hy
  rcases zr_case v1 with hb | ⟨a, ha, rfl⟩
  · unfold wpX_equivalent
    refine zx_bad hb (br_t rfl ?_)
    unfold wpY_equivalent
    exact zy_bad hb (br_f (by decide) ⟨rfl, zr_rel ok hw hx hy⟩)
  · rcases zr_case v2 with hb | ⟨c, hc, rfl⟩
    · unfold wpX_equivalent
      refine zx_good ha (br_f (by decide) (zx_bad hb (br_t rfl ?_)))
      unfold wpY_equivalent
      exact zy_good ha (br_t rfl (zy_bad hb (br_f (by decide) ⟨rfl, zr_rel ok hw hx hy⟩)))
    · unfold wpX_equivalent
      refine zx_good ha (br_f (by decide) (zx_good hc (br_f (by decide) ?_)))
      refine zx_pair ?_
      refine zx_search (M := 2) (by decide) (by decide) (zr_me2 ha hc) ok hw hx (fun d B ro co re pi nw nx hw hx hR => ?_)
      have hd := zm_Res_lt (by decide) hR
      have key : ∀ (yl yn : Nat → zf_F), zy_P yn → ∀ d', zm_Ap (zm_wo st en sp a) (zm_wo st en sp c) 256 d' → d' = d := fun yl yn _ d' hA => (zm_Res_Ap (by decide) (fun x hx1 => zm_vl_2 st en sp (me := zf_u (zf_u me 0 a) 1 c) (sg := zf_u (zf_u sg 0 1) 1 (zf_mk 996)) rfl rfl rfl rfl x hx1) hR hA).symm
      refine pk_eq d 0 (fun z => ?_) (fun z => ?_) rfl rfl (by omega) (by omega)
      · unfold wpY_equivalent
        refine zy_good ha (br_t rfl (zy_good hc (br_t rfl ?_)))
        refine zy_apart ha hc hy (fun d' yl yn hy hA => ?_)
        have e := key yl yn hy d' hA
        subst e
        exact pk_eq d' 0 (fun _ => ⟨rfl, zr_rel ok hw hx hy⟩) (fun y => absurd z y) rfl rfl (by omega) (by omega)
      · unfold wpY_equivalent
        refine zy_good ha (br_t rfl (zy_good hc (br_t rfl ?_)))
        refine zy_apart ha hc hy (fun d' yl yn hy hA => ?_)
        have e := key yl yn hy d' hA
        subst e
        exact pk_eq d' 0 (fun y => absurd y z) (fun _ => ⟨rfl, zr_rel ok hw hx hy⟩) rfl rfl (by omega) (by omega)
theorem i_vc_difference {k : Nat} {u : SX} {v : SY} (I : i_Rel k u v) (hk : k + 5 ≤ 2560) (v1 : Int32) (v2 : Int32) : wpX_difference (fun r u' => wpY_difference (fun r' v' => r' = r ∧ i_Rel (k + 5) u' v') v v1 v2) u v1 v2 := by
  refine zr_el (P := fun u v => wpX_difference (fun r u' => wpY_difference (fun r' v' => r' = r ∧ i_Rel (k + 5) u' v') v v1 v2) u v1 v2) I ?_
  intro m w b sz st en sp me sg ro co re pi nw nx ke yn yl yt ok hw hx hy
  rcases zr_case v1 with hb | ⟨a, ha, rfl⟩
  · unfold wpX_difference
    refine zx_bad hb (br_t rfl ?_)
    unfold wpY_difference
    exact zy_bad hb (br_f (by decide) ⟨rfl, zr_rel ok hw hx hy⟩)
  · rcases zr_case v2 with hb | ⟨c, hc, rfl⟩
    · unfold wpX_difference
      refine zx_good ha (br_f (by decide) (zx_bad hb (br_t rfl ?_)))
      unfold wpY_difference
      exact zy_good ha (br_t rfl (zy_bad hb (br_f (by decide) ⟨rfl, zr_rel ok hw hx hy⟩)))
    · unfold wpX_difference
      refine zx_good ha (br_f (by decide) (zx_good hc (br_f (by decide) ?_)))
      refine zx_pair ?_
      refine zx_search (M := 2) (by decide) (by decide) (zr_me2 ha hc) ok hw hx (fun d B ro co re pi nw nx hw hx hR => ?_)
      unfold wpY_difference
      refine zy_good ha (br_t rfl (zy_good hc (br_t rfl ?_)))
      refine zy_apart ha hc hy (fun d' yl yn hy hA => ?_)
      have e := zm_Res_Ap (by decide) (fun x hx1 => zm_vl_2 st en sp (me := zf_u (zf_u me 0 a) 1 c) (sg := zf_u (zf_u sg 0 1) 1 (zf_mk 996)) rfl rfl rfl rfl x hx1) hR hA
      subst e
      exact ⟨rfl, zr_rel ok hw hx hy⟩
theorem i_vc_rank {k : Nat} {u : SX} {v : SY} (I : i_Rel k u v) (hk : k + 5 ≤ 2560) (v1 : Int32) : wpX_rank (fun r u' => wpY_rank (fun r' v' => r' = r ∧ i_Rel (k + 5) u' v') v v1) u v1 := by
  refine zr_el (P := fun u v => wpX_rank (fun r u' => wpY_rank (fun r' v' => r' = r ∧ i_Rel (k + 5) u' v') v v1) u v1) I ?_
  intro m w b sz st en sp me sg ro co re pi nw nx ke yn yl yt ok hw hx hy
  rcases zr_case v1 with hb | ⟨a, ha, rfl⟩
  · unfold wpX_rank
    refine zx_bad hb (br_t rfl ?_)
    unfold wpY_rank
    exact zy_bad hb (br_f (by decide) ⟨rfl, zr_rel ok hw hx hy⟩)
  · refine zx_rank ha ok hw hx (fun B W me sg ro co re pi nw nx ke hw hx em es hX => ?_)
    unfold wpY_rank
    refine zy_good ha (br_t rfl ?_)
    refine zy_rank_12 ha hy (fun r yn yl yt hy hY => ?_)
    have e := zm_rank_eq st en sp (fun c hc => zm_rw_yw st sp em es c hc) hX hY
    subst e
    exact ⟨rfl, zr_rel ok hw hx hy⟩
theorem i_vc_total {k : Nat} {u : SX} {v : SY} (I : i_Rel k u v) (hk : k + 5 ≤ 2560) (v1 : Int32) (v2 : Int32) : wpX_total (fun r u' => wpY_total (fun r' v' => r' = r ∧ i_Rel (k + 5) u' v') v v1 v2) u v1 v2 := by
  refine zr_el (P := fun u v => wpX_total (fun r u' => wpY_total (fun r' v' => r' = r ∧ i_Rel (k + 5) u' v') v v1 v2) u v1 v2) I ?_
  intro m w b sz st en sp me sg ro co re pi nw nx ke yn yl yt ok hw hx hy
  rcases zr_case v1 with hb | ⟨a, ha, rfl⟩
  · unfold wpX_total
    refine zx_bad hb (br_t rfl ?_)
    unfold wpY_total
    exact zy_bad hb (br_f (by decide) ⟨rfl, zr_rel ok hw hx hy⟩)
  · by_cases h0 : v2 < 0
    · unfold wpX_total
      refine zx_good ha (br_f (by decide) (br_t h0 ?_))
      unfold wpY_total
      exact zy_good ha (br_t rfl (br_t h0 ⟨rfl, zr_rel ok hw hx hy⟩))
    · obtain ⟨N, hN, rfl⟩ := nI_of h0
      by_cases h1 : N ≤ 200
      · refine zx_total ha h1 ok hw hx (fun me sg nw nx hw hx => ?_)
        unfold wpY_total
        refine zy_good ha (br_t rfl (br_f h0 (pk_le N 200 (fun _ => ?_) (fun z => by omega))))
        refine zy_begin ha hy ?_
        exact zy_total_31 ha h1 (zm_yst_P st a) (fun yl yn hy => ⟨rfl, zr_rel ok hw hx hy⟩)
      · unfold wpX_total
        refine zx_good ha (br_f (by decide) (br_f h0 (pk_le N 200 (fun z => absurd z h1) (fun _ => ?_))))
        unfold wpY_total
        exact zy_good ha (br_t rfl (br_f h0 (pk_le N 200 (fun z => absurd z h1) (fun _ => ⟨rfl, zr_rel ok hw hx hy⟩))))
theorem i_vc_first {k : Nat} {u : SX} {v : SY} (I : i_Rel k u v) (hk : k + 5 ≤ 2560) (v1 : Int32) : wpX_first (fun r u' => wpY_first (fun r' v' => r' = r ∧ i_Rel (k + 5) u' v') v v1) u v1 := by
  refine zr_el (P := fun u v => wpX_first (fun r u' => wpY_first (fun r' v' => r' = r ∧ i_Rel (k + 5) u' v') v v1) u v1) I ?_
  intro m w b sz st en sp me sg ro co re pi nw nx ke yn yl yt ok hw hx hy
  rcases zr_case v1 with hb | ⟨a, ha, rfl⟩
  · unfold wpX_first
    refine zx_bad hb (br_t rfl ?_)
    unfold wpY_first
    exact zy_bad hb (br_f (by decide) ⟨rfl, zr_rel ok hw hx hy⟩)
  · unfold wpX_first
    refine zx_good ha (br_f (by decide) ?_)
    refine zx_alone ?_
    refine zx_search (M := 1) (by decide) (by decide) (zr_me1 ha) ok hw hx (fun d B ro co re pi nw nx hw hx hR => ?_)
    unfold wpY_first
    refine zy_good ha (br_t rfl ?_)
    refine zy_first_12 ha hy (fun d' yl yn hy hA => ?_)
    have e := zm_Res_Ap (by decide) (fun x hx1 => by rw [zm_vl_1 st en sp (me := zf_u me 0 a) (sg := zf_u sg 0 1) (a := a) rfl rfl x hx1]) hR hA
    subst e
    exact ⟨rfl, zr_rel ok hw hx hy⟩
theorem i_vc_isSum {k : Nat} {u : SX} {v : SY} (I : i_Rel k u v) (hk : k + 5 ≤ 2560) (v1 : Int32) (v2 : Int32) (v3 : Int32) : wpX_isSum (fun r u' => wpY_isSum (fun r' v' => r' = r ∧ i_Rel (k + 5) u' v') v v1 v2 v3) u v1 v2 v3 := by
  refine zr_el (P := fun u v => wpX_isSum (fun r u' => wpY_isSum (fun r' v' => r' = r ∧ i_Rel (k + 5) u' v') v v1 v2 v3) u v1 v2 v3) I ?_
  intro m w b sz st en sp me sg ro co re pi nw nx ke yn yl yt ok hw hx hy
  rcases zr_case v1 with hb | ⟨a, ha, rfl⟩
  · unfold wpX_isSum
    refine zx_bad hb (br_t rfl ?_)
    unfold wpY_isSum
    exact zy_bad hb (br_f (by decide) ⟨rfl, zr_rel ok hw hx hy⟩)
  · rcases zr_case v2 with hb | ⟨c, hc, rfl⟩
    · unfold wpX_isSum
      refine zx_good ha (br_f (by decide) (zx_bad hb (br_t rfl ?_)))
      unfold wpY_isSum
      exact zy_good ha (br_t rfl (zy_bad hb (br_f (by decide) ⟨rfl, zr_rel ok hw hx hy⟩)))
    · rcases zr_case v3 with hb | ⟨d, hd, rfl⟩
      · unfold wpX_isSum
        refine zx_good ha (br_f (by decide) (zx_good hc (br_f (by decide) (zx_bad hb (br_t rfl ?_)))))
        unfold wpY_isSum
        exact zy_good ha (br_t rfl (zy_good hc (br_t rfl (zy_bad hb (br_f (by decide) ⟨rfl, zr_rel ok hw hx hy⟩)))))
      · unfold wpX_isSum
        refine zx_good ha (br_f (by decide) (zx_good hc (br_f (by decide) (zx_good hd (br_f (by decide) ?_)))))
        refine zx_pair ?_
        refine nm_r (zf_upn _ 2 c) (nm_r (zf_up _ 2 1) ?_)
        refine zx_search (M := 3) (by decide) (by decide) (zr_me3 ha hd hc) ok hw hx (fun x B ro co re pi nw nx hw hx hR => ?_)
        have hlt := zm_Res_lt (by decide) hR
        have hv := fun y hy1 => zm_vl_3 st en sp (me := zf_u (zf_u (zf_u me 0 a) 1 d) 2 c) (sg := zf_u (zf_u (zf_u sg 0 1) 1 (zf_mk 996)) 2 1) (a := a) (a' := d) (a'' := c) rfl rfl rfl rfl rfl rfl y hy1
        refine pk_eq x 0 (fun z => ?_) (fun z => ?_) rfl rfl (by omega) (by omega)
        · unfold wpY_isSum
          refine zy_good ha (br_t rfl (zy_good hc (br_t rfl (zy_good hd (br_t rfl ?_)))))
          refine zy_isSum_29 ha hc hd hy (fun yl yn hy _ => ⟨rfl, zr_rel ok hw hx hy⟩) (fun yl yn hy hE => ?_)
          obtain ⟨y, hy1, hne⟩ := hE
          rcases hR with ⟨_, h0⟩ | h0
          · exact absurd ((hv y hy1).mp (h0 y hy1)) hne
          · exact absurd z (by have := h0.1; omega)
        · unfold wpY_isSum
          refine zy_good ha (br_t rfl (zy_good hc (br_t rfl (zy_good hd (br_t rfl ?_)))))
          refine zy_isSum_29 ha hc hd hy (fun yl yn hy hA => ?_) (fun yl yn hy _ => ⟨rfl, zr_rel ok hw hx hy⟩)
          rcases hR with ⟨h0, _⟩ | h0
          · exact absurd h0 z
          · exact absurd ((hv x h0.1).mpr (hA x h0.1 h0.2.1)) h0.2.2.1
end
