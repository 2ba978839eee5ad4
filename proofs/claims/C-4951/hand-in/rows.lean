section
/-! pure rows to paste: stores, nI and lN arithmetic, masks, shifts, narrowing, branches by naturals (pk_le, pk_lt, pk_eq), loops (lp1 .. lp16: the measure of the state; rp1 ..: recursion), negatives. Take what you need -/
theorem pk_us {f : Nat → Int32} {k : Nat} {x : Int32} : upd f k x k = x := if_pos rfl
theorem pk_un {f : Nat → Int32} {k j : Nat} {x : Int32} (h : j ≠ k) : upd f k x j = f j := if_neg h
theorem pk_uLs {f : Nat → Int64} {k : Nat} {x : Int64} : vp_updL f k x k = x := if_pos rfl
theorem pk_uLn {f : Nat → Int64} {k j : Nat} {x : Int64} (h : j ≠ k) : vp_updL f k x j = f j := if_neg h
theorem pk_sub {a b : Nat} (h : b ≤ a) : nI a - nI b = nI (a - b) := by
  obtain ⟨c, rfl⟩ : ∃ c, a = c + b := ⟨a - b, by omega⟩
  rw [← nI_add, Int32.add_sub_cancel, Nat.add_sub_cancel]
theorem pk_m1 (n : Nat) : nI (n + 1) + (-1) = nI n := by
  rw [← nI_1, Int32.add_assoc, show (1 : Int32) + (-1) = 0 from rfl, Int32.add_zero]
theorem pk_mul (a b : Nat) : nI a * nI b = nI (a * b) := (Int32.ofNat_mul a b).symm
theorem pk_div {a d : Nat} (ha : a < 2 ^ 31) (h0 : 0 < d) (hd : d < 2 ^ 31) : nI a / nI d = nI (a / d) := by
  apply Int32.toInt_inj.mp
  rw [lg_idiv_nonneg (by rw [nI_toInt ha]; omega) (by rw [nI_toInt hd]; omega), nI_toInt ha, nI_toInt hd, nI_toInt (Nat.lt_of_le_of_lt (Nat.div_le_self a d) ha)]
  first | rfl | exact (Int.natCast_ediv _ _).symm
theorem pk_rem {a d : Nat} (ha : a < 2 ^ 31) (h0 : 0 < d) (hd : d < 2 ^ 31) : nI a - nI a / nI d * nI d = nI (a % d) := by
  rw [pk_div ha h0 hd, pk_mul, pk_sub (Nat.div_mul_le_self a d)]
  exact congrArg nI (by have := Nat.div_add_mod' a d; omega)
theorem pk_sub_toInt {a b : Nat} (ha : a < 2 ^ 30) (hb : b < 2 ^ 30) : (nI a - nI b).toInt = (a : Int) - b := by
  rw [Int32.toInt_sub, nI_toInt (by omega), nI_toInt (by omega)]
  exact Int.bmod_eq_of_le (by omega) (by omega)
theorem pk_sneg {a b : Nat} (hb : b < 2 ^ 30) (h : a < b) : nI a - nI b < 0 := by
  rw [Int32.lt_iff_toInt_lt, pk_sub_toInt (by omega) hb, show (0 : Int32).toInt = 0 from by decide]
  omega
theorem pk_ix (x : Int32) {n : Nat} (hn : n < 2 ^ 31) : x < 0 ∨ nI n ≤ x ∨ ∃ j : Nat, j < n ∧ x = nI j := by
  by_cases h : x < 0
  · exact Or.inl h
  · obtain ⟨j, hj, rfl⟩ := nI_of h
    by_cases h2 : j < n
    · exact Or.inr (Or.inr ⟨j, h2, rfl⟩)
    · exact Or.inr (Or.inl (nI_le (by omega) hj))
theorem pk_le {x y : Int32} {A B : Prop} (a b : Nat) (f : a ≤ b → A) (g : b < a → B) (hx : x = nI a := by rfl) (hy : y = nI b := by rfl) (ha : a < 2 ^ 31 := by omega) (hb : b < 2 ^ 31 := by omega) : (x ≤ y → A) ∧ (¬ x ≤ y → B) := by
  subst hx hy
  rw [nI_leI ha hb]
  exact ⟨f, fun z => g (by omega)⟩
theorem pk_lt {x y : Int32} {A B : Prop} (a b : Nat) (f : a < b → A) (g : b ≤ a → B) (hx : x = nI a := by rfl) (hy : y = nI b := by rfl) (ha : a < 2 ^ 31 := by omega) (hb : b < 2 ^ 31 := by omega) : (x < y → A) ∧ (¬ x < y → B) := by
  subst hx hy
  rw [nI_ltI ha hb]
  exact ⟨f, fun z => g (by omega)⟩
theorem pk_eq {x y : Int32} {A B : Prop} (a b : Nat) (f : a = b → A) (g : a ≠ b → B) (hx : x = nI a := by rfl) (hy : y = nI b := by rfl) (ha : a < 2 ^ 31 := by omega) (hb : b < 2 ^ 31 := by omega) : (x = y → A) ∧ (¬ x = y → B) := by
  subst hx hy
  rw [nI_eq ha hb]
  exact ⟨f, g⟩
theorem pk_in {x : Int32} (n N : Nat) (h : n < N) (hx : x = nI n := by rfl) (hN : N < 2 ^ 31 := by omega) : vp_in x N := by
  subst hx
  exact vp_in_nI h hN
theorem pk_cl {x : Int32} (n : Nat) (hx : x = nI n := by rfl) (h : n < 2 ^ 31 := by omega) : x.toNatClampNeg = n := by
  subst hx
  exact nI_clamp h
theorem pk_tn {n : Nat} (h : n < 2 ^ 32) : (nI n).toBitVec.toNat = n := Nat.mod_eq_of_lt h
theorem pk_and (x : Int32) {m : Int32} (k : Nat) (hm : m.toBitVec.toNat = 2 ^ k - 1) : x &&& m = nI (x.toBitVec.toNat % 2 ^ k) := by
  apply Int32.toBitVec_inj.mp
  apply BitVec.eq_of_toNat_eq
  rw [Int32.toBitVec_and, BitVec.toNat_and, hm, Nat.and_two_pow_sub_one_eq_mod]
  show _ = (BitVec.ofNat 32 _).toNat
  rw [BitVec.toNat_ofNat]
  exact (Nat.mod_eq_of_lt (Nat.lt_of_le_of_lt (Nat.mod_le _ _) x.toBitVec.isLt)).symm
theorem pk_andN {n : Nat} (h : n < 2 ^ 32) {m : Int32} (k : Nat) (hm : m.toBitVec.toNat = 2 ^ k - 1) : nI n &&& m = nI (n % 2 ^ k) := by
  rw [pk_and _ k hm, pk_tn h]
theorem pk_andE (x : Int32) {m : Int32} (k : Nat) (hm : m.toBitVec.toNat = 2 ^ k - 1) : ∃ j : Nat, j < 2 ^ k ∧ x &&& m = nI j := ⟨_, Nat.mod_lt _ (Nat.two_pow_pos k), pk_and x k hm⟩
theorem pk_andIn (x : Int32) {m : Int32} (k : Nat) (hm : m.toBitVec.toNat = 2 ^ k - 1) (hk : k ≤ 30) : vp_in (x &&& m) (2 ^ k) := by
  obtain ⟨j, hj, e⟩ := pk_andE x k hm
  rw [e]
  exact vp_in_nI hj (Nat.lt_of_le_of_lt (Nat.pow_le_pow_right (by decide) hk) (by decide))
theorem pk_shl (a s : Int32) (k : Nat) (hs : (s.toBitVec.smod 32).toNat = k) : (a <<< s).toBitVec.toNat = a.toBitVec.toNat * 2 ^ k % 2 ^ 32 := by
  show (a.toBitVec <<< (s.toBitVec.smod 32).toNat).toNat = _
  rw [hs, BitVec.toNat_shiftLeft, Nat.shiftLeft_eq]
theorem pk_shlN {n : Nat} (s : Int32) (k : Nat) (hs : (s.toBitVec.smod 32).toNat = k) (h : n * 2 ^ k < 2 ^ 32) : nI n <<< s = nI (n * 2 ^ k) := by
  apply Int32.toBitVec_inj.mp
  apply BitVec.eq_of_toNat_eq
  have hn : n < 2 ^ 32 := Nat.lt_of_le_of_lt (Nat.le_mul_of_pos_right n (Nat.two_pow_pos k)) h
  rw [pk_shl _ _ k hs, pk_tn hn, pk_tn h, Nat.mod_eq_of_lt h]
theorem pk_shr (a s : Int32) (k : Nat) (hs : (s.toBitVec.smod 32).toNat = k) : (a >>> s).toInt = a.toInt >>> k := by
  show (a.toBitVec.sshiftRight (s.toBitVec.smod 32).toNat).toInt = _
  rw [hs, BitVec.toInt_sshiftRight]
  rfl
theorem pk_shrN {n : Nat} (h : n < 2 ^ 31) (s : Int32) (k : Nat) (hs : (s.toBitVec.smod 32).toNat = k) : nI n >>> s = nI (n / 2 ^ k) := by
  apply Int32.toInt_inj.mp
  have h2 : n / 2 ^ k ≤ n := Nat.div_le_self _ _
  rw [pk_shr _ _ k hs, nI_toInt h, nI_toInt (by omega), Int.shiftRight_eq_div_pow]
  rfl
theorem pk_ushr (x s : Int32) (k : Nat) (hs : ((s.toUInt32 &&& Int32.toUInt32 31).toBitVec % 32).toNat = k) : (x.toUInt32 >>> (s.toUInt32 &&& Int32.toUInt32 31)).toInt32.toBitVec.toNat = x.toBitVec.toNat / 2 ^ k := by
  have e : (x.toUInt32 >>> (s.toUInt32 &&& Int32.toUInt32 31)).toInt32.toBitVec = x.toBitVec >>> k := by
    rw [← hs]
    exact UInt32.toBitVec_shiftRight _ _
  rw [e, BitVec.toNat_ushiftRight, Nat.shiftRight_eq_div_pow]
theorem pk_ushrN {n : Nat} (hn : n < 2 ^ 32) (s : Int32) (k : Nat) (hs : ((s.toUInt32 &&& Int32.toUInt32 31).toBitVec % 32).toNat = k) : ((nI n).toUInt32 >>> (s.toUInt32 &&& Int32.toUInt32 31)).toInt32 = nI (n / 2 ^ k) := by
  apply Int32.toBitVec_inj.mp
  apply BitVec.eq_of_toNat_eq
  rw [pk_ushr _ s k hs, pk_tn hn, pk_tn (Nat.lt_of_le_of_lt (Nat.div_le_self _ _) hn)]
theorem pk_loop {σ : Type} (W : Nat → Nat → σ → Prop) (I : Nat → σ → Prop) (e i0 : Nat) (s : σ) (hi : i0 ≤ e) (h0 : I i0 s) (hx : ∀ n s, I e s → W (n + 1) e s)
    (hs : ∀ n i s, i < e → I i s → (∀ s', I (i + 1) s' → W n (i + 1) s') → W (n + 1) i s) : ∃ n, W n i0 s :=
  ⟨e + 1, loop_i W I e hx hs (e + 1) i0 s hi (by omega) h0⟩
theorem pk_loopD {σ : Type} (W : Nat → Nat → σ → Prop) (I : Nat → σ → Prop) (hx : ∀ n s, I 0 s → W (n + 1) 0 s)
    (hs : ∀ n i s, I (i + 1) s → (∀ s', I i s' → W n i s') → W (n + 1) (i + 1) s) : ∀ (e : Nat) (s : σ), I e s → W (e + 1) e s := by
  intro e
  induction e with
  | zero => exact fun s h => hx 0 s h
  | succ e ih => exact fun s h => hs (e + 1) e s h (fun s' h' => ih s' h')
theorem pk_least (P : Nat → Prop) (h : ∃ k, P k) : ∃ k, P k ∧ ∀ j, j < k → ¬ P j := by
  obtain ⟨k, hk⟩ := h
  induction k using Nat.strongRecOn with
  | ind k ih =>
    by_cases e : ∃ j, j < k ∧ P j
    · obtain ⟨j, hj, pj⟩ := e
      exact ih j hj pj
    · exact ⟨k, hk, fun j hj pj => e ⟨j, hj, pj⟩⟩
theorem ek_if {c d A B : Prop} (e : c ↔ d) (f : d → A) (g : ¬ d → B) : (c → A) ∧ (¬ c → B) :=
  ⟨fun z => f (e.mp z), fun z => g (fun y => z (e.mpr y))⟩
theorem ek_v {α : Sort _} {P : α → Prop} {a b : α} (e : a = b) (h : P b) : P a := e ▸ h
end
section
/-! pure: sums over the goods, reach, the greatest value -/
def ks_up (d : Nat → Nat) (k p : Nat) : Nat → Nat := fun i => if i = k then p else d i
theorem ks_up_s {d : Nat → Nat} {k p : Nat} : ks_up d k p k = p := if_pos rfl
theorem ks_up_n {d : Nat → Nat} {k p i : Nat} (h : i ≠ k) : ks_up d k p i = d i := if_neg h
def ks_dot (d W : Nat → Nat) : Nat → Nat
  | 0 => 0
  | n + 1 => ks_dot d W n + d n * W n
theorem ks_dot_s (d W : Nat → Nat) (n : Nat) : ks_dot d W (n + 1) = ks_dot d W n + d n * W n := rfl
theorem ks_dot_congr {d e W : Nat → Nat} : ∀ n, (∀ i, i < n → d i = e i) → ks_dot d W n = ks_dot e W n
  | 0, _ => rfl
  | n + 1, h => by
    rw [ks_dot_s, ks_dot_s, ks_dot_congr n (fun i hi => h i (by omega)), h n (by omega)]
theorem ks_dot_zero {d W : Nat → Nat} : ∀ n, (∀ i, i < n → d i = 0) → ks_dot d W n = 0
  | 0, _ => rfl
  | n + 1, h => by
    rw [ks_dot_s, ks_dot_zero n (fun i hi => h i (by omega)), h n (by omega), Nat.zero_mul]
theorem ks_dot_le {d W : Nat → Nat} (b : Nat) : ∀ n, (∀ i, i < n → d i * W i ≤ b) → ks_dot d W n ≤ n * b
  | 0, _ => Nat.zero_le _
  | n + 1, h => by
    rw [ks_dot_s, Nat.add_mul, Nat.one_mul]
    exact Nat.add_le_add (ks_dot_le b n (fun i hi => h i (by omega))) (h n (by omega))
theorem ks_dot_up {d W : Nat → Nat} {k p : Nat} : ∀ n, k < n → ks_dot (ks_up d k p) W n + d k * W k = ks_dot d W n + p * W k
  | 0, h => absurd h (Nat.not_lt_zero _)
  | n + 1, h => by
    rw [ks_dot_s, ks_dot_s]
    by_cases e : k = n
    · subst e
      rw [ks_dot_congr (d := ks_up d k p) (e := d) k (fun i hi => ks_up_n (by omega)), ks_up_s]
      omega
    · have ih := ks_dot_up (d := d) (W := W) (p := p) n (show k < n by omega)
      rw [ks_up_n (d := d) (k := k) (p := p) (i := n) (by omega)]
      omega
theorem ks_dot_term {d W : Nat → Nat} {k : Nat} : ∀ n, k < n → d k * W k ≤ ks_dot d W n
  | 0, h => absurd h (Nat.not_lt_zero _)
  | n + 1, h => by
    rw [ks_dot_s]
    by_cases e : k = n
    · subst e; omega
    · have := ks_dot_term (d := d) (W := W) n (show k < n by omega)
      omega
def ks_cut (d : Nat → Nat) (k : Nat) : Nat → Nat := fun i => if i < k then 0 else d i
theorem ks_cut_lo {d : Nat → Nat} {k i : Nat} (h : i < k) : ks_cut d k i = 0 := if_pos h
theorem ks_cut_hi {d : Nat → Nat} {k i : Nat} (h : k ≤ i) : ks_cut d k i = d i := if_neg (by omega)
theorem ks_dot_cut {d W : Nat → Nat} {k : Nat} : ∀ n, k ≤ n → ks_dot (ks_cut d k) W n + ks_dot d W k = ks_dot d W n
  | 0, h => by
    have e : k = 0 := by omega
    subst e; rfl
  | n + 1, h => by
    by_cases e : k = n + 1
    · subst e
      rw [ks_dot_zero (n + 1) (fun i hi => ks_cut_lo hi), Nat.zero_add]
    · have ih := ks_dot_cut (d := d) (W := W) n (show k ≤ n by omega)
      rw [ks_dot_s, ks_dot_s, ks_cut_hi (show k ≤ n by omega)]
      omega
def ks_sm (f : Nat → Nat) : Nat → Nat
  | 0 => 0
  | n + 1 => ks_sm f n + f n
theorem ks_sm_s (f : Nat → Nat) (n : Nat) : ks_sm f (n + 1) = ks_sm f n + f n := rfl
theorem ks_sm_tail {f : Nat → Nat} {p : Nat} : ∀ n, p ≤ n → (∀ q, p ≤ q → q < n → f q = 0) → ks_sm f n = ks_sm f p
  | 0, h, _ => by
    have e : p = 0 := by omega
    subst e; rfl
  | n + 1, h, z => by
    by_cases e : p = n + 1
    · subst e; rfl
    · rw [ks_sm_s, ks_sm_tail n (by omega) (fun q hq hn => z q hq (by omega)), z n (by omega) (by omega), Nat.add_zero]
theorem ks_sm_congr {f g : Nat → Nat} : ∀ n, (∀ i, i < n → f i = g i) → ks_sm f n = ks_sm g n
  | 0, _ => rfl
  | n + 1, h => by
    rw [ks_sm_s, ks_sm_s, ks_sm_congr n (fun i hi => h i (by omega)), h n (by omega)]
/-- the greatest of P, or -100000 if there is none -/
def ks_Top (P : Nat → Prop) (t : Int) : Prop := (t = -100000 ∧ ∀ v, ¬ P v) ∨ (∃ v : Nat, t = (v : Int) ∧ P v ∧ ∀ v', P v' → v' ≤ v)
theorem ks_Top_congr {P Q : Nat → Prop} {t : Int} (h : ∀ v, P v ↔ Q v) (H : ks_Top P t) : ks_Top Q t := by
  rcases H with ⟨e, hn⟩ | ⟨v, e, hv, hm⟩
  · exact Or.inl ⟨e, fun v hq => hn v ((h v).mpr hq)⟩
  · exact Or.inr ⟨v, e, (h v).mp hv, fun v' hq => hm v' ((h v').mpr hq)⟩
theorem ks_Top_uniq {P : Nat → Prop} {t s : Int} (H : ks_Top P t) (K : ks_Top P s) : t = s := by
  rcases H with ⟨e, hn⟩ | ⟨v, e, hv, hm⟩
  · rcases K with ⟨f, kn⟩ | ⟨w, f, kw, km⟩
    · omega
    · exact absurd kw (hn w)
  · rcases K with ⟨f, kn⟩ | ⟨w, f, kw, km⟩
    · exact absurd hv (kn v)
    · have a := hm w kw
      have b := km v hv
      omega
theorem ks_Top_none {P : Nat → Prop} (h : ∀ v, ¬ P v) : ks_Top P (-100000) := Or.inl ⟨rfl, h⟩
theorem ks_Top_or_le {P Q : Nat → Prop} {b s : Int} (H : ks_Top P b) (K : ks_Top Q s) (h : s ≤ b) : ks_Top (fun v => P v ∨ Q v) b := by
  rcases H with ⟨e, hn⟩ | ⟨v, e, hv, hm⟩
  · rcases K with ⟨f, kn⟩ | ⟨w, f, kw, km⟩
    · exact Or.inl ⟨e, fun v hv => hv.elim (hn v) (kn v)⟩
    · omega
  · rcases K with ⟨f, kn⟩ | ⟨w, f, kw, km⟩
    · exact Or.inr ⟨v, e, Or.inl hv, fun v' h' => h'.elim (hm v') (fun z => absurd z (kn v'))⟩
    · exact Or.inr ⟨v, e, Or.inl hv, fun v' h' => h'.elim (hm v') (fun z => by have := km v' z; omega)⟩
theorem ks_Top_or_gt {P Q : Nat → Prop} {b s : Int} (H : ks_Top P b) (K : ks_Top Q s) (h : b < s) : ks_Top (fun v => P v ∨ Q v) s := by
  rcases K with ⟨f, kn⟩ | ⟨w, f, kw, km⟩
  · rcases H with ⟨e, hn⟩ | ⟨v, e, hv, hm⟩ <;> omega
  · rcases H with ⟨e, hn⟩ | ⟨v, e, hv, hm⟩
    · exact Or.inr ⟨w, f, Or.inr kw, fun v' h' => h'.elim (fun z => absurd z (hn v')) (km v')⟩
    · exact Or.inr ⟨w, f, Or.inr kw, fun v' h' => h'.elim (fun z => by have := hm v' z; omega) (km v')⟩
theorem ks_Top_sh {Q : Nat → Prop} {s : Int} (z : Nat) (K : ks_Top Q s) (h : 0 ≤ s) : ks_Top (fun v => ∃ v', Q v' ∧ v = v' + z) (s + z) := by
  rcases K with ⟨f, kn⟩ | ⟨w, f, kw, km⟩
  · omega
  · refine Or.inr ⟨w + z, by omega, ⟨w, kw, rfl⟩, fun v' h' => ?_⟩
    obtain ⟨y, hy, ey⟩ := h'
    have := km y hy
    omega
theorem ks_Top_neg {Q : Nat → Prop} {s : Int} (K : ks_Top Q s) (h : s < 0) : ∀ v, ¬ Q v := by
  rcases K with ⟨f, kn⟩ | ⟨w, f, kw, km⟩
  · exact kn
  · omega
theorem ks_Top_dom {P : Nat → Prop} {t : Int} (B : Nat) (H : ks_Top P t) (h : ∀ v, P v → v ≤ B) : t = -100000 ∨ (0 ≤ t ∧ t ≤ B) := by
  rcases H with ⟨e, hn⟩ | ⟨v, e, hv, hm⟩
  · exact Or.inl e
  · have := h v hv
    exact Or.inr ⟨by omega, by omega⟩
theorem ks_Top_ge {P : Nat → Prop} {t : Int} {v : Nat} (H : ks_Top P t) (h : P v) : (v : Int) ≤ t := by
  rcases H with ⟨e, hn⟩ | ⟨w, e, hv, hm⟩
  · exact absurd h (hn v)
  · have := hm v h; omega
theorem ks_Top_at {P : Nat → Prop} {t : Int} {v : Nat} (H : ks_Top P t) (h : t = (v : Int)) : P v := by
  rcases H with ⟨e, hn⟩ | ⟨w, e, hv, hm⟩
  · omega
  · have e2 : w = v := by omega
    exact e2 ▸ hv
theorem ks_Top_pos {P : Nat → Prop} {t : Int} (H : ks_Top P t) (h : 0 ≤ t) : ∃ v : Nat, t = (v : Int) ∧ P v ∧ ∀ v', P v' → v' ≤ v := by
  rcases H with ⟨e, hn⟩ | K
  · omega
  · exact K
/-- some choice in A has weight w and value v -/
def ks_R (c : Nat) (W V : Nat → Nat) (A : (Nat → Nat) → Prop) (w v : Nat) : Prop := ∃ d, A d ∧ ks_dot d W c = w ∧ ks_dot d V c = v
def ks_Av (c : Nat) (S : Nat → Nat) (k : Nat) (d : Nat → Nat) : Prop := (∀ i, i < c → d i ≤ S i) ∧ ∀ i, i < k → d i = 0
theorem ks_R_step {c k : Nat} {W V S : Nat → Nat} (hk : k < c) (w v : Nat) : ks_R c W V (ks_Av c S k) w v ↔ ∃ q, q ≤ S k ∧ q * W k ≤ w ∧ ∃ v', ks_R c W V (ks_Av c S (k + 1)) (w - q * W k) v' ∧ v = v' + q * V k := by
  constructor
  · intro ⟨d, ⟨h1, h2⟩, hw, hv⟩
    have a := ks_dot_up (d := d) (W := W) (k := k) (p := 0) c hk
    have b := ks_dot_up (d := d) (W := V) (k := k) (p := 0) c hk
    rw [Nat.zero_mul, Nat.add_zero] at a b
    refine ⟨d k, h1 k hk, by omega, ks_dot (ks_up d k 0) V c, ⟨ks_up d k 0, ⟨?_, ?_⟩, by omega, rfl⟩, by omega⟩
    · intro i hi
      by_cases e : i = k
      · rw [e, ks_up_s]; exact Nat.zero_le _
      · rw [ks_up_n e]; exact h1 i hi
    · intro i hi
      by_cases e : i = k
      · rw [e, ks_up_s]
      · rw [ks_up_n e]; exact h2 i (by omega)
  · intro ⟨q, hq, hqw, v', ⟨d, ⟨h1, h2⟩, hw, hv⟩, ev⟩
    have a := ks_dot_up (d := d) (W := W) (k := k) (p := q) c hk
    have b := ks_dot_up (d := d) (W := V) (k := k) (p := q) c hk
    rw [h2 k (by omega), Nat.zero_mul, Nat.add_zero] at a b
    refine ⟨ks_up d k q, ⟨?_, ?_⟩, by omega, by omega⟩
    · intro i hi
      by_cases e : i = k
      · rw [e, ks_up_s]; exact hq
      · rw [ks_up_n e]; exact h1 i hi
    · intro i hi
      rw [ks_up_n (by omega)]; exact h2 i (by omega)
theorem ks_R_end {c : Nat} {W V S : Nat → Nat} (w v : Nat) : ks_R c W V (ks_Av c S c) w v ↔ w = 0 ∧ v = 0 := by
  constructor
  · intro ⟨d, ⟨_, h2⟩, hw, hv⟩
    rw [ks_dot_zero c h2] at hw hv
    exact ⟨hw.symm, hv.symm⟩
  · intro ⟨hw, hv⟩
    exact ⟨fun _ => 0, ⟨fun _ _ => Nat.zero_le _, fun _ _ => rfl⟩, by rw [hw]; exact ks_dot_zero c (fun _ _ => rfl), by rw [hv]; exact ks_dot_zero c (fun _ _ => rfl)⟩
/-- what the loop over the pieces has seen before p -/
def ks_Pc (c : Nat) (W V S : Nat → Nat) (k w p v : Nat) : Prop := ∃ q, q < p ∧ q * W k ≤ w ∧ ∃ v', ks_R c W V (ks_Av c S (k + 1)) (w - q * W k) v' ∧ v = v' + q * V k
theorem ks_Pc_0 {c k w : Nat} {W V S : Nat → Nat} (v : Nat) : ¬ ks_Pc c W V S k w 0 v := fun ⟨q, hq, _⟩ => absurd hq (Nat.not_lt_zero _)
theorem ks_Pc_s {c k w p : Nat} {W V S : Nat → Nat} (hp : p * W k ≤ w) (v : Nat) : (ks_Pc c W V S k w p v ∨ ∃ v', ks_R c W V (ks_Av c S (k + 1)) (w - p * W k) v' ∧ v = v' + p * V k) ↔ ks_Pc c W V S k w (p + 1) v := by
  constructor
  · rintro (⟨q, hq, h⟩ | h)
    · exact ⟨q, by omega, h⟩
    · exact ⟨p, by omega, hp, h⟩
  · intro ⟨q, hq, h⟩
    by_cases e : q = p
    · subst e; exact Or.inr h.2
    · exact Or.inl ⟨q, by omega, h⟩
theorem ks_Pc_e {c k w p : Nat} {W V S : Nat → Nat} (hk : k < c) (hp : p ≤ S k + 1) (he : S k < p ∨ w < p * W k) (v : Nat) : ks_Pc c W V S k w p v ↔ ks_R c W V (ks_Av c S k) w v := by
  rw [ks_R_step hk]
  constructor
  · intro ⟨q, hq, h⟩
    exact ⟨q, by omega, h⟩
  · intro ⟨q, hq, hw, h⟩
    refine ⟨q, ?_, hw, h⟩
    rcases he with he | he
    · omega
    · apply Nat.lt_of_not_le
      intro z
      have := Nat.mul_le_mul_right (W k) z
      omega
def ks_cnt (W S : Nat → Nat) : Nat → Nat → Nat → Nat
  | 0, _, w => if w = 0 then 1 else 0
  | m + 1, k, w => ks_sm (fun p => if p * W k ≤ w then ks_cnt W S m (k + 1) (w - p * W k) else 0) (S k + 1)
def ks_cg (W S : Nat → Nat) (m k w : Nat) : Nat → Nat := fun p => if p * W k ≤ w then ks_cnt W S m (k + 1) (w - p * W k) else 0
theorem ks_cnt_s (W S : Nat → Nat) (m k w : Nat) : ks_cnt W S (m + 1) k w = ks_sm (ks_cg W S m k w) (S k + 1) := rfl
theorem ks_cg_e {W S : Nat → Nat} {m k w p : Nat} (hp : p ≤ S k + 1) (he : S k < p ∨ w < p * W k) : ks_sm (ks_cg W S m k w) p = ks_cnt W S (m + 1) k w := by
  rw [ks_cnt_s]
  refine (ks_sm_tail (S k + 1) hp (fun q h1 h2 => ?_)).symm
  rcases he with he | he
  · omega
  · refine if_neg ?_
    have := Nat.mul_le_mul_right (W k) h1
    omega
theorem ks_cg_p {W S : Nat → Nat} {m k w p : Nat} (hp : p * W k ≤ w) : ks_cg W S m k w p = ks_cnt W S m (k + 1) (w - p * W k) := if_pos hp
end
section
/-! pure: codes to the base 3, the least code, counting -/
def ks_d : Nat → Nat → Nat → Nat
  | 0, _, _ => 0
  | j + 1, r, i => if i = j then r % 3 else ks_d j (r / 3) i
theorem ks_d_s (j r i : Nat) : ks_d (j + 1) r i = if i = j then r % 3 else ks_d j (r / 3) i := rfl
theorem ks_d_n (j r : Nat) : ks_d (j + 1) r j = r % 3 := if_pos rfl
theorem ks_d_lt {j r i : Nat} (h : i ≠ j) : ks_d (j + 1) r i = ks_d j (r / 3) i := if_neg h
theorem ks_d_le : ∀ j r i, ks_d j r i ≤ 2
  | 0, _, _ => Nat.zero_le _
  | j + 1, r, i => by
    by_cases e : i = j
    · subst e; rw [ks_d_n]; omega
    · rw [ks_d_lt e]; exact ks_d_le j (r / 3) i
theorem ks_d_0 : ∀ j i, ks_d j 0 i = 0
  | 0, _ => rfl
  | j + 1, i => by
    by_cases e : i = j
    · subst e; rw [ks_d_n]
    · rw [ks_d_lt e]; exact ks_d_0 j i
def ks_q : Nat → Nat → Nat
  | 0, r => r
  | j + 1, r => ks_q j (r / 3)
theorem ks_q_0 : ∀ j r, ks_q j r = 0 ↔ r < 3 ^ j
  | 0, r => by
    show r = 0 ↔ r < 1
    omega
  | j + 1, r => by
    show ks_q j (r / 3) = 0 ↔ _
    rw [ks_q_0 j (r / 3), Nat.pow_succ]
    omega
theorem ks_dv_s {S : Nat → Nat} (j r : Nat) : (∀ i, i < j + 1 → ks_d (j + 1) r i ≤ S i) ↔ (r % 3 ≤ S j ∧ ∀ i, i < j → ks_d j (r / 3) i ≤ S i) := by
  constructor
  · intro h
    refine ⟨?_, fun i hi => ?_⟩
    · have := h j (by omega); rw [ks_d_n] at this; exact this
    · have := h i (by omega); rw [ks_d_lt (by omega)] at this; exact this
  · intro ⟨h1, h2⟩ i hi
    by_cases e : i = j
    · subst e; rw [ks_d_n]; exact h1
    · rw [ks_d_lt e]; exact h2 i (by omega)
theorem ks_dd_s {W : Nat → Nat} (j r : Nat) : ks_dot (ks_d (j + 1) r) W (j + 1) = ks_dot (ks_d j (r / 3)) W j + r % 3 * W j := by
  rw [ks_dot_s, ks_d_n, ks_dot_congr j (fun i hi => ks_d_lt (by omega))]
def ks_cd (d : Nat → Nat) : Nat → Nat
  | 0 => 0
  | n + 1 => 3 * ks_cd d n + d n
theorem ks_cd_s (d : Nat → Nat) (n : Nat) : ks_cd d (n + 1) = 3 * ks_cd d n + d n := rfl
theorem ks_cd_congr {d e : Nat → Nat} : ∀ n, (∀ i, i < n → d i = e i) → ks_cd d n = ks_cd e n
  | 0, _ => rfl
  | n + 1, h => by
    rw [ks_cd_s, ks_cd_s, ks_cd_congr n (fun i hi => h i (by omega)), h n (by omega)]
theorem ks_cd_lt {d : Nat → Nat} : ∀ n, (∀ i, i < n → d i ≤ 2) → ks_cd d n < 3 ^ n
  | 0, _ => by show 0 < 1; omega
  | n + 1, h => by
    have a := ks_cd_lt n (fun i hi => h i (by omega))
    have b := h n (by omega)
    rw [ks_cd_s, Nat.pow_succ]
    omega
theorem ks_d_cd {d : Nat → Nat} : ∀ n, (∀ i, i < n → d i ≤ 2) → ∀ i, i < n → ks_d n (ks_cd d n) i = d i
  | 0, _ => fun i hi => absurd hi (Nat.not_lt_zero _)
  | n + 1, h => fun i hi => by
    have b := h n (by omega)
    by_cases e : i = n
    · subst e; rw [ks_d_n, ks_cd_s]; omega
    · rw [ks_d_lt e, ks_cd_s, show (3 * ks_cd d n + d n) / 3 = ks_cd d n by omega]
      exact ks_d_cd n (fun i hi => h i (by omega)) i (by omega)
theorem ks_cd_d : ∀ n r, r < 3 ^ n → ks_cd (ks_d n r) n = r
  | 0, r, h => by
    have : r < 1 := h
    show 0 = r
    omega
  | n + 1, r, h => by
    rw [Nat.pow_succ] at h
    rw [ks_cd_s, ks_d_n, ks_cd_congr n (fun i hi => ks_d_lt (by omega)), ks_cd_d n (r / 3) (by omega)]
    omega
theorem ks_lex {c : Nat} {O : (Nat → Nat) → Prop} {e d : Nat → Nat} (he : ∀ i, i < c → e i ≤ 2) (h : ∀ k, k < c → ∀ q, q < e k → ¬ ∃ d, O d ∧ (∀ i, i < k → d i = e i) ∧ d k = q) (hd : O d) : ∀ n, n ≤ c → ks_cd e n < ks_cd d n ∨ (ks_cd e n = ks_cd d n ∧ ∀ i, i < n → d i = e i)
  | 0, _ => Or.inr ⟨rfl, fun i hi => absurd hi (Nat.not_lt_zero _)⟩
  | n + 1, hn => by
    have e2 := he n (by omega)
    rw [ks_cd_s, ks_cd_s]
    rcases ks_lex he h hd n (by omega) with a | ⟨a, b⟩
    · left; omega
    · by_cases z : d n < e n
      · exact absurd ⟨d, hd, b, rfl⟩ (h n (by omega) (d n) z)
      · by_cases z2 : d n = e n
        · right
          refine ⟨by omega, fun i hi => ?_⟩
          by_cases ei : i = n
          · subst ei; exact z2
          · exact b i (by omega)
        · left; omega
/-- the least code of greatest value, then of least weight -/
def ks_Best (c : Nat) (W V : Nat → Nat) (L : Nat) (A : (Nat → Nat) → Prop) (r : Nat) : Prop :=
  r < 3 ^ c ∧ A (ks_d c r) ∧ ks_dot (ks_d c r) W c ≤ L ∧ ∀ s, s < 3 ^ c → A (ks_d c s) → ks_dot (ks_d c s) W c ≤ L →
    ks_dot (ks_d c s) V c < ks_dot (ks_d c r) V c ∨ (ks_dot (ks_d c s) V c = ks_dot (ks_d c r) V c ∧ (ks_dot (ks_d c r) W c < ks_dot (ks_d c s) W c ∨ (ks_dot (ks_d c r) W c = ks_dot (ks_d c s) W c ∧ r ≤ s)))
theorem ks_Best_uniq {c L r s : Nat} {W V : Nat → Nat} {A : (Nat → Nat) → Prop} (h : ks_Best c W V L A r) (k : ks_Best c W V L A s) : r = s := by
  obtain ⟨h1, h2, h3, h4⟩ := h
  obtain ⟨k1, k2, k3, k4⟩ := k
  have a := h4 s k1 k2 k3
  have b := k4 r h1 h2 h3
  omega
/-- A sees only the goods below c, and takes at most two pieces -/
def ks_AC (c : Nat) (A : (Nat → Nat) → Prop) : Prop := (∀ d e, (∀ i, i < c → d i = e i) → A d → A e) ∧ (∀ d, A d → ∀ i, i < c → d i ≤ 2)
def ks_BW (T : Nat → Int) (L b : Nat) : Prop := b ≤ L ∧ ∀ w, w ≤ L → T w ≤ T b ∧ (w < b → T w < T b)
theorem ks_best_val {c L r b : Nat} {W V : Nat → Nat} {A : (Nat → Nat) → Prop} {T : Nat → Int} (hA : ks_AC c A) (hT : ∀ w, w ≤ L → ks_Top (ks_R c W V A w) (T w)) (hb : ks_BW T L b) (h : ks_Best c W V L A r) : T b = (ks_dot (ks_d c r) V c : Nat) ∧ ks_dot (ks_d c r) W c = b := by
  obtain ⟨h1, h2, h3, h4⟩ := h
  obtain ⟨b1, b2⟩ := hb
  have p1 := ks_Top_ge (hT _ h3) ⟨ks_d c r, h2, rfl, rfl⟩
  have p2 := b2 _ h3
  obtain ⟨v, ev, ⟨d, hd, hw, hv⟩, hm⟩ := ks_Top_pos (hT b b1) (by omega)
  have hd2 := hA.2 d hd
  have ec : ∀ i, i < c → d i = ks_d c (ks_cd d c) i := fun i hi => (ks_d_cd c hd2 i hi).symm
  have q := h4 (ks_cd d c) (ks_cd_lt c hd2) (hA.1 _ _ ec hd) (by rw [← ks_dot_congr c ec]; omega)
  rw [← ks_dot_congr (W := V) c ec, ← ks_dot_congr (W := W) c ec, hw, hv] at q
  have e1 : ks_dot (ks_d c r) V c = v := by omega
  refine ⟨by omega, ?_⟩
  by_cases z : ks_dot (ks_d c r) W c < b
  · have := p2.2 z; omega
  · omega
theorem ks_best_code {c L b v : Nat} {W V : Nat → Nat} {A : (Nat → Nat) → Prop} {T : Nat → Int} {e : Nat → Nat} (hA : ks_AC c A) (hT : ∀ w, w ≤ L → ks_Top (ks_R c W V A w) (T w)) (hb : ks_BW T L b) (hv : T b = (v : Int))
    (hO : A e ∧ ks_dot e W c = b ∧ ks_dot e V c = v)
    (hl : ∀ k, k < c → ∀ q, q < e k → ¬ ∃ d, (A d ∧ ks_dot d W c = b ∧ ks_dot d V c = v) ∧ (∀ i, i < k → d i = e i) ∧ d k = q) : ks_Best c W V L A (ks_cd e c) := by
  obtain ⟨b1, b2⟩ := hb
  obtain ⟨o1, o2, o3⟩ := hO
  have he2 := hA.2 e o1
  have ec : ∀ i, i < c → e i = ks_d c (ks_cd e c) i := fun i hi => (ks_d_cd c he2 i hi).symm
  refine ⟨ks_cd_lt c he2, hA.1 _ _ ec o1, ?_, ?_⟩
  · rw [← ks_dot_congr c ec]; omega
  · intro s s1 s2 s3
    rw [← ks_dot_congr (W := V) c ec, ← ks_dot_congr (W := W) c ec, o2, o3]
    have p1 := ks_Top_ge (hT _ s3) ⟨ks_d c s, s2, rfl, rfl⟩
    have p2 := b2 _ s3
    by_cases z : ks_dot (ks_d c s) V c < v
    · exact Or.inl z
    · right
      refine ⟨by omega, ?_⟩
      by_cases z2 : ks_dot (ks_d c s) W c < b
      · have := p2.2 z2; omega
      · by_cases z3 : ks_dot (ks_d c s) W c = b
        · right
          refine ⟨by omega, ?_⟩
          have k := ks_lex he2 hl (d := ks_d c s) ⟨s2, z3, by omega⟩ c (Nat.le_refl c)
          rw [ks_cd_d c s s1] at k
          omega
        · left; omega
def ks_ok (S : Nat → Nat) (k : Nat) : Nat → Nat → Bool
  | 0, _ => true
  | m + 1, r => decide (r % 3 ≤ S (k + m)) && ks_ok S k m (r / 3)
def ks_wt (W : Nat → Nat) (k : Nat) : Nat → Nat → Nat
  | 0, _ => 0
  | m + 1, r => ks_wt W k m (r / 3) + r % 3 * W (k + m)
theorem ks_ok_s (S : Nat → Nat) (k m r : Nat) : ks_ok S k (m + 1) r = (decide (r % 3 ≤ S (k + m)) && ks_ok S k m (r / 3)) := rfl
theorem ks_wt_s (W : Nat → Nat) (k m r : Nat) : ks_wt W k (m + 1) r = ks_wt W k m (r / 3) + r % 3 * W (k + m) := rfl
theorem ks_ok_top {S : Nat → Nat} {k : Nat} : ∀ m r q, r < 3 ^ m → ks_ok S k (m + 1) (q * 3 ^ m + r) = (decide (q % 3 ≤ S k) && ks_ok S (k + 1) m r)
  | 0, r, q, h => by
    have e : r = 0 := by
      have : r < 1 := h
      omega
    subst e
    rw [ks_ok_s, Nat.pow_zero, Nat.mul_one, Nat.add_zero, Nat.add_zero]
    rfl
  | m + 1, r, q, h => by
    rw [ks_ok_s, ks_ok_s S (k + 1) m, Nat.pow_succ, ← Nat.mul_assoc]
    rw [Nat.pow_succ] at h
    have ih := ks_ok_top (S := S) (k := k) m (r / 3) q (by omega)
    generalize q * 3 ^ m = y at ih ⊢
    rw [show (y * 3 + r) % 3 = r % 3 by omega, show (y * 3 + r) / 3 = y + r / 3 by omega, ih, show k + (m + 1) = k + 1 + m by omega, Bool.and_left_comm]
theorem ks_wt_top {W : Nat → Nat} {k : Nat} : ∀ m r q, r < 3 ^ m → ks_wt W k (m + 1) (q * 3 ^ m + r) = q % 3 * W k + ks_wt W (k + 1) m r
  | 0, r, q, h => by
    have e : r = 0 := by
      have : r < 1 := h
      omega
    subst e
    rw [ks_wt_s, Nat.pow_zero, Nat.mul_one, Nat.add_zero, Nat.add_zero]
    show 0 + _ = _ + 0
    omega
  | m + 1, r, q, h => by
    rw [ks_wt_s, ks_wt_s W (k + 1) m, Nat.pow_succ, ← Nat.mul_assoc]
    rw [Nat.pow_succ] at h
    have ih := ks_wt_top (W := W) (k := k) m (r / 3) q (by omega)
    generalize q * 3 ^ m = y at ih ⊢
    rw [show (y * 3 + r) % 3 = r % 3 by omega, show (y * 3 + r) / 3 = y + r / 3 by omega, ih, show k + (m + 1) = k + 1 + m by omega, Nat.add_assoc]
def ks_nc (P : Nat → Bool) : Nat → Nat
  | 0 => 0
  | n + 1 => ks_nc P n + (P n).toNat
theorem ks_nc_s (P : Nat → Bool) (n : Nat) : ks_nc P (n + 1) = ks_nc P n + (P n).toNat := rfl
theorem ks_nc_congr {P Q : Nat → Bool} : ∀ n, (∀ i, i < n → P i = Q i) → ks_nc P n = ks_nc Q n
  | 0, _ => rfl
  | n + 1, h => by
    rw [ks_nc_s, ks_nc_s, ks_nc_congr n (fun i hi => h i (by omega)), h n (by omega)]
theorem ks_nc_add {P : Nat → Bool} (a : Nat) : ∀ b, ks_nc P (a + b) = ks_nc P a + ks_nc (fun x => P (a + x)) b
  | 0 => rfl
  | b + 1 => by
    rw [← Nat.add_assoc, ks_nc_s, ks_nc_s, ks_nc_add a b, Nat.add_assoc]
theorem ks_nc_no {P : Nat → Bool} : ∀ n, (∀ i, i < n → P i = false) → ks_nc P n = 0
  | 0, _ => rfl
  | n + 1, h => by
    rw [ks_nc_s, ks_nc_no n (fun i hi => h i (by omega)), h n (by omega)]
    rfl
theorem ks_nc_le {P : Nat → Bool} : ∀ n, ks_nc P n ≤ n
  | 0 => Nat.le_refl _
  | n + 1 => by
    rw [ks_nc_s]
    have := ks_nc_le (P := P) n
    have := Bool.toNat_le (P n)
    omega
theorem ks_nc_pos {P : Nat → Bool} : ∀ n, 0 < ks_nc P n ↔ ∃ i, i < n ∧ P i = true
  | 0 => ⟨fun h => absurd h (Nat.lt_irrefl _), fun ⟨i, hi, _⟩ => absurd hi (Nat.not_lt_zero _)⟩
  | n + 1 => by
    rw [ks_nc_s]
    constructor
    · intro h
      by_cases z : P n = true
      · exact ⟨n, by omega, z⟩
      · have z' : P n = false := by
          cases e : P n
          · rfl
          · exact absurd e z
        rw [z'] at h
        obtain ⟨i, hi, h2⟩ := (ks_nc_pos n).mp h
        exact ⟨i, by omega, h2⟩
    · intro ⟨i, hi, h2⟩
      by_cases e : i = n
      · subst e; rw [h2]; exact Nat.succ_pos _
      · have := (ks_nc_pos n).mpr ⟨i, by omega, h2⟩
        omega
theorem ks_nc_or {P Q R : Nat → Bool} : ∀ n, (∀ i, i < n → (R i).toNat = (P i).toNat + (Q i).toNat) → ks_nc R n = ks_nc P n + ks_nc Q n
  | 0, _ => rfl
  | n + 1, h => by
    rw [ks_nc_s, ks_nc_s, ks_nc_s, ks_nc_or n (fun i hi => h i (by omega)), h n (by omega)]
    omega
def ks_pw (W S : Nat → Nat) (k m w : Nat) : Nat → Bool := fun r => ks_ok S k m r && decide (ks_wt W k m r = w)
theorem ks_pw_dig {W S : Nat → Nat} {k m w q : Nat} (hq : q < 3) (ih : ∀ k w, (∀ i, k ≤ i → i < k + m → S i ≤ 2) → ks_nc (ks_pw W S k m w) (3 ^ m) = ks_cnt W S m k w) (hS : ∀ i, k ≤ i → i < k + (m + 1) → S i ≤ 2) :
    ks_nc (fun x => ks_pw W S k (m + 1) w (q * 3 ^ m + x)) (3 ^ m) = if q ≤ S k then ks_cg W S m k w q else 0 := by
  have hp : ∀ x, x < 3 ^ m → ks_pw W S k (m + 1) w (q * 3 ^ m + x) = ((decide (q ≤ S k) && ks_ok S (k + 1) m x) && decide (q * W k + ks_wt W (k + 1) m x = w)) := by
    intro x hx
    unfold ks_pw
    rw [ks_ok_top m x q hx, ks_wt_top m x q hx, Nat.mod_eq_of_lt hq]
  by_cases h1 : q ≤ S k
  · rw [if_pos h1]
    by_cases h2 : q * W k ≤ w
    · rw [ks_cg_p h2, ← ih (k + 1) _ (fun i h3 h4 => hS i (by omega) (by omega))]
      refine ks_nc_congr _ (fun x hx => ?_)
      show ks_pw W S k (m + 1) w (q * 3 ^ m + x) = _
      rw [hp x hx, decide_eq_true h1, Bool.true_and]
      unfold ks_pw
      have : (q * W k + ks_wt W (k + 1) m x = w) ↔ (ks_wt W (k + 1) m x = w - q * W k) := by omega
      rw [decide_eq_decide.mpr this]
    · rw [show ks_cg W S m k w q = 0 from if_neg h2]
      refine ks_nc_no _ (fun x hx => ?_)
      show ks_pw W S k (m + 1) w (q * 3 ^ m + x) = _
      rw [hp x hx, decide_eq_false (show ¬ q * W k + ks_wt W (k + 1) m x = w by omega), Bool.and_false]
  · rw [if_neg h1]
    refine ks_nc_no _ (fun x hx => ?_)
    show ks_pw W S k (m + 1) w (q * 3 ^ m + x) = _
    rw [hp x hx, decide_eq_false h1, Bool.false_and, Bool.false_and]
theorem ks_cnt_nc {W S : Nat → Nat} : ∀ m k w, (∀ i, k ≤ i → i < k + m → S i ≤ 2) → ks_nc (ks_pw W S k m w) (3 ^ m) = ks_cnt W S m k w
  | 0, k, w, _ => by
    show 0 + (true && decide (0 = w)).toNat = if w = 0 then 1 else 0
    by_cases h : w = 0
    · subst h; rfl
    · rw [if_neg h, decide_eq_false (fun z => h z.symm)]; rfl
  | m + 1, k, w, hS => by
    have ih := fun k w => ks_cnt_nc (W := W) (S := S) m k w
    have d0 := ks_pw_dig (w := w) (q := 0) (by omega) ih hS
    have d1 := ks_pw_dig (w := w) (q := 1) (by omega) ih hS
    have d2 := ks_pw_dig (w := w) (q := 2) (by omega) ih hS
    have hk := hS k (by omega) (by omega)
    rw [show 3 ^ (m + 1) = 3 ^ m + (3 ^ m + 3 ^ m) by rw [Nat.pow_succ]; omega, ks_nc_add, ks_nc_add, ks_cnt_s]
    have e0 : ks_nc (ks_pw W S k (m + 1) w) (3 ^ m) = ks_nc (fun x => ks_pw W S k (m + 1) w (0 * 3 ^ m + x)) (3 ^ m) := ks_nc_congr _ (fun x hx => by show _ = ks_pw W S k (m + 1) w (0 * 3 ^ m + x); rw [Nat.zero_mul, Nat.zero_add])
    have e1 : ks_nc (fun x => ks_pw W S k (m + 1) w (3 ^ m + x)) (3 ^ m) = ks_nc (fun x => ks_pw W S k (m + 1) w (1 * 3 ^ m + x)) (3 ^ m) := ks_nc_congr _ (fun x hx => by show ks_pw W S k (m + 1) w (3 ^ m + x) = ks_pw W S k (m + 1) w (1 * 3 ^ m + x); rw [Nat.one_mul])
    have e2 : ks_nc (fun x => ks_pw W S k (m + 1) w (3 ^ m + (3 ^ m + x))) (3 ^ m) = ks_nc (fun x => ks_pw W S k (m + 1) w (2 * 3 ^ m + x)) (3 ^ m) := ks_nc_congr _ (fun x hx => by show ks_pw W S k (m + 1) w (3 ^ m + (3 ^ m + x)) = ks_pw W S k (m + 1) w (2 * 3 ^ m + x); rw [show 3 ^ m + (3 ^ m + x) = 2 * 3 ^ m + x by omega])
    rw [e0, e1, e2, d0, d1, d2, if_pos (Nat.zero_le _)]
    rcases (show S k = 0 ∨ S k = 1 ∨ S k = 2 by omega) with h | h | h
    · rw [h, if_neg (by omega), if_neg (by omega)]
      show _ = 0 + ks_cg W S m k w 0
      omega
    · rw [h, if_pos (by omega), if_neg (by omega)]
      show _ = 0 + ks_cg W S m k w 0 + ks_cg W S m k w 1
      omega
    · rw [h, if_pos (by omega), if_pos (by omega)]
      show _ = 0 + ks_cg W S m k w 0 + ks_cg W S m k w 1 + ks_cg W S m k w 2
      omega
theorem ks_ok_d {S : Nat → Nat} : ∀ m r, ks_ok S 0 m r = true ↔ ∀ i, i < m → ks_d m r i ≤ S i
  | 0, r => ⟨fun _ i hi => absurd hi (Nat.not_lt_zero _), fun _ => rfl⟩
  | m + 1, r => by
    rw [ks_ok_s, ks_dv_s, Bool.and_eq_true, decide_eq_true_iff, ks_ok_d m, Nat.zero_add]
theorem ks_wt_d {W : Nat → Nat} : ∀ m r, ks_wt W 0 m r = ks_dot (ks_d m r) W m
  | 0, r => rfl
  | m + 1, r => by
    rw [ks_wt_s, ks_dd_s, ks_wt_d m, Nat.zero_add]
end
section
/-! X: the tables over the goods -/
theorem ks_m281 (a : Nat) : (281 : Int32) * nI a = nI (281 * a) := pk_mul 281 a
theorem ks_sub1 (a : Nat) : nI a - 1 = nI a + (-1) := Int32.sub_eq_add_neg (nI a) 1
theorem ks_z : (0 : Int32).toInt = 0 := by decide
theorem ks_none : (-100000 : Int32).toInt = -100000 := by decide
theorem ks_lt0 {x : Int32} : x < 0 ↔ x.toInt < 0 := by rw [Int32.lt_iff_toInt_lt, ks_z]
theorem ks_neg1 : nI 0 + (-1) < 0 := by decide
theorem ks_Top_lo {P : Nat → Prop} {t : Int} (H : ks_Top P t) : -100000 ≤ t := by
  rcases H with ⟨e, _⟩ | ⟨v, e, _⟩ <;> omega
/-- the goods, as the arrays hold them -/
def ks_G (c : Nat) (aw av au af : Nat → Int32) (W V S F : Nat → Nat) : Prop := ∀ i, i < c → aw i = nI (W i) ∧ av i = nI (V i) ∧ au i = nI (S i) ∧ af i = nI (F i) ∧ 1 ≤ W i ∧ W i ≤ 20 ∧ V i ≤ 50 ∧ 1 ≤ S i ∧ S i ≤ 2 ∧ F i ≤ 3
/-- one entry of both tables -/
def ks_Cell (c : Nat) (W V S : Nat → Nat) (tb wy : Nat → Int32) (k w : Nat) : Prop := ks_Top (ks_R c W V (ks_Av c S k) w) (tb (281 * k + w)).toInt ∧ wy (281 * k + w) = nI (ks_cnt W S (c - k) k w)
theorem ks_Rb {c : Nat} {W V : Nat → Nat} {A : (Nat → Nat) → Prop} (hc : c ≤ 7) (hA : ∀ d, A d → ∀ i, i < c → d i ≤ 2) (hV : ∀ i, i < c → V i ≤ 50) {w v : Nat} (h : ks_R c W V A w v) : v ≤ 700 := by
  obtain ⟨d, hd, _, hv⟩ := h
  have a := ks_dot_le (d := d) (W := V) 100 c (fun i hi => Nat.mul_le_mul (hA d hd i hi) (hV i hi))
  omega
section
variable {c L : Nat} {aw av au af tb wy st fx pr : Nat → Int32} {W V S F : Nat → Nat}
theorem ks_fe_113 {post : SX → Prop} {k w : Nat} {t s : Int32} (hk : k < 7) (hw : w ≤ 280) (hp : post (nI c, nI L, aw, av, au, af, upd tb (281 * k + w) t, upd wy (281 * k + w) s, st, fx, pr)) : wX_fillEntry_113 post (nI k) (nI w) t s (nI c) (nI L) aw av au af tb wy st fx pr := by
  have e : (281 : Int32) * nI k + nI w = nI (281 * k + w) := by rw [ks_m281, nI_add]
  unfold wX_fillEntry_113
  rw [e, nI_clamp (by omega)]
  exact ⟨vp_in_nI (by omega) (by decide), nm_e ⟨vp_in_nI (by omega) (by decide), nm_e hp⟩⟩
theorem ks_fe_10 {post : SX → Prop} {k w : Nat} (hk : k < c) (hc : c ≤ 7) (hw : w ≤ 280) (haw : aw k = nI (W k)) (hav : av k = nI (V k)) (hW : W k ≤ 20) (hV : ∀ i, i < c → V i ≤ 50) (hS : ∀ i, i < c → S i ≤ 2)
    (hrow : ∀ w, w ≤ 280 → ks_Cell c W V S tb wy (k + 1) w)
    (hp : ∀ t : Int32, ks_Top (ks_R c W V (ks_Av c S k) w) t.toInt → post (nI c, nI L, aw, av, au, af, upd tb (281 * k + w) t, upd wy (281 * k + w) (nI (ks_cnt W S (c - k) k w)), st, fx, pr)) :
    ∀ n p (b : Int32), p ≤ S k + 1 → S k + 1 - p < n → ks_Top (ks_Pc c W V S k w p) b.toInt → wX_fillEntry_10 post (nI k) (nI w) (nI (S k)) (nI c) (nI L) aw av au af tb wy st fx pr n b (nI (ks_sm (ks_cg W S (c - (k + 1)) k w) p)) (nI p) := by
  intro n
  induction n with
  | zero => intro p b _ h; exact absurd h (Nat.not_lt_zero _)
  | succ n ih =>
    intro p b hp1 hn hT
    have hSk := hS k hk
    have hVk := hV k hk
    have hpw : p * W k ≤ 3 * 20 := Nat.mul_le_mul (by omega) hW
    have hpv : p * V k ≤ 3 * 50 := Nat.mul_le_mul (by omega) hVk
    have ek : (nI k).toNatClampNeg = k := nI_clamp (by omega)
    have hx : (S k < p ∨ w < p * W k) → wX_fillEntry_113 post (nI k) (nI w) b (nI (ks_sm (ks_cg W S (c - (k + 1)) k w) p)) (nI c) (nI L) aw av au af tb wy st fx pr := by
      intro he
      refine ks_fe_113 (by omega) hw ?_
      rw [ks_cg_e hp1 he, show c - (k + 1) + 1 = c - k by omega]
      exact hp b (ks_Top_congr (ks_Pc_e hk hp1 he) hT)
    refine pk_lt (S k) p (fun h => hx (Or.inl h)) (fun h => ⟨vp_in_nI (by omega) (by decide), ?_⟩)
    rw [ek, haw, pk_mul p (W k)]
    refine pk_lt w (p * W k) (fun h2 => hx (Or.inr h2)) (fun h2 => ⟨vp_in_nI (by omega) (by decide), nm_r (e' := nI (281 * (k + 1) + (w - p * W k))) ?_ ?_⟩)
    · rw [nI_1, ks_m281, nI_add, pk_sub (by omega)]
      exact congrArg nI (by omega)
    · have ej : (nI (281 * (k + 1) + (w - p * W k))).toNatClampNeg = 281 * (k + 1) + (w - p * W k) := nI_clamp (by omega)
      rw [ej, hav, pk_mul p (V k)]
      obtain ⟨hT2, hY⟩ := hrow (w - p * W k) (by omega)
      have hd := ks_Top_dom 700 hT2 (fun v hv => ks_Rb hc (fun d hd i hi => Nat.le_trans (hd.1 i hi) (hS i hi)) hV hv)
      have hz : (nI (p * V k)).toInt = ((p * V k : Nat) : Int) := nI_toInt (by omega)
      have hnext : ∀ b' : Int32, ks_Top (ks_Pc c W V S k w (p + 1)) b'.toInt → wX_fillEntry_93 post (wX_fillEntry_10 post (nI k) (nI w) (nI (S k)) (nI c) (nI L) aw av au af tb wy st fx pr n) (nI k) (nI w) (nI (S k)) (nI (ks_sm (ks_cg W S (c - (k + 1)) k w) p)) (nI p) (nI (281 * (k + 1) + (w - p * W k))) b' (nI c) (nI L) aw av au af tb wy st fx pr := by
        intro b' hb'
        refine ⟨vp_in_nI (by omega) (by decide), nm_r (e' := nI (ks_sm (ks_cg W S (c - (k + 1)) k w) (p + 1))) ?_ (nm_r (nI_1 p) (ih (p + 1) b' (by omega) (by omega) hb'))⟩
        rw [ej, hY, nI_add, ks_sm_s, ks_cg_p h2]
      refine ⟨vp_in_nI (by omega) (by decide), vp_in_nI (by omega) (by decide), nm_e ⟨vp_in_nI (by omega) (by decide), ?_⟩⟩
      have hadd : (tb (281 * (k + 1) + (w - p * W k)) + nI (p * V k)).toInt = (tb (281 * (k + 1) + (w - p * W k))).toInt + ((p * V k : Nat) : Int) := by
        rw [Jvm.Kit.i32_add (by rw [hz]; omega) (by rw [hz]; omega), hz]
      refine ⟨fun hneg => hnext b ?_, fun hpos => ⟨fun hle => hnext b ?_, fun hgt => hnext _ ?_⟩⟩
      · refine ks_Top_congr (ks_Pc_s h2) (ks_Top_or_le hT (ks_Top_none ?_) (ks_Top_lo hT))
        intro v hv
        obtain ⟨v', hv', _⟩ := hv
        exact ks_Top_neg hT2 (ks_lt0.mp hneg) v' hv'
      · rw [ks_lt0] at hpos
        rw [Int32.le_iff_toInt_le, hadd] at hle
        exact ks_Top_congr (ks_Pc_s h2) (ks_Top_or_le hT (ks_Top_sh (p * V k) hT2 (by omega)) hle)
      · rw [ks_lt0] at hpos
        rw [Int32.le_iff_toInt_le, hadd] at hgt
        rw [hadd]
        exact ks_Top_congr (ks_Pc_s h2) (ks_Top_or_gt hT (ks_Top_sh (p * V k) hT2 (by omega)) (by omega))
/-- what stands after the entries of row k below w: these, and the rows behind -/
def ks_Inv (c : Nat) (W V S : Nat → Nat) (tb wy : Nat → Int32) (k w : Nat) : Prop := ∀ k' w', k' ≤ c → w' ≤ 280 → (k < k' ∨ (k' = k ∧ w' < w)) → ks_Cell c W V S tb wy k' w'
theorem ks_Inv_s {k w : Nat} {t : Int32} (hw : w ≤ 280) (h : ks_Inv c W V S tb wy k w) (ht : ks_Top (ks_R c W V (ks_Av c S k) w) t.toInt) : ks_Inv c W V S (upd tb (281 * k + w) t) (upd wy (281 * k + w) (nI (ks_cnt W S (c - k) k w))) k (w + 1) := by
  intro k' w' h1 h2 h3
  by_cases e : k' = k ∧ w' = w
  · obtain ⟨e1, e2⟩ := e
    subst e1 e2
    unfold ks_Cell
    rw [pk_us, pk_us]
    exact ⟨ht, rfl⟩
  · have hne : 281 * k' + w' ≠ 281 * k + w := by omega
    unfold ks_Cell
    rw [pk_un hne, pk_un hne]
    exact h k' w' h1 h2 (by omega)
theorem ks_f90 {post : SX → Prop} {J : Int32 → Int32 → Int32 → (Nat → Int32) → (Nat → Int32) → (Nat → Int32) → (Nat → Int32) → (Nat → Int32) → (Nat → Int32) → (Nat → Int32) → (Nat → Int32) → (Nat → Int32) → Prop} {x1 : Int32} {k : Nat} (hk : k < c) (hc : c ≤ 7) (haw : aw k = nI (W k)) (hav : av k = nI (V k)) (hW : W k ≤ 20) (hV : ∀ i, i < c → V i ≤ 50) (hS : ∀ i, i < c → S i ≤ 2)
    (hJ : ∀ tb wy, ks_Inv c W V S tb wy k 281 → J (nI k + (-1)) (nI c) (nI L) aw av au af tb wy st fx pr) :
    ∀ n w tb wy, w ≤ 281 → 281 - w < n → ks_Inv c W V S tb wy k w → wX_fill_90 post J x1 (nI k) (nI (S k)) n (nI w) (nI c) (nI L) aw av au af tb wy st fx pr := by
  intro n
  induction n with
  | zero => intro w tb wy _ h; exact absurd h (Nat.not_lt_zero _)
  | succ n ih =>
    intro w tb wy h1 h2 hI
    refine pk_lt 280 w (fun h => nm_e ?_) (fun h => ?_)
    · have e : w = 281 := by omega
      subst e
      exact hJ tb wy hI
    · refine ⟨S k + 2, ?_⟩
      refine ks_fe_10 hk hc h haw hav hW hV hS (fun w hw => hI (k + 1) w (by omega) hw (Or.inl (by omega))) ?_ (S k + 2) 0 (-100000) (by omega) (by omega) ?_
      · intro t ht
        refine nm_r (nI_1 w) ?_
        exact ih (w + 1) _ _ (by omega) (by omega) (ks_Inv_s h hI ht)
      · rw [ks_none]
        exact ks_Top_none ks_Pc_0
theorem ks_f66 {post : SX → Prop} {x1 : Int32} {S' : Nat → Nat} (hc : c ≤ 7) (hG : ks_G c aw av au af W V S F) (hx : ∀ k, k < c → (x1 = nI k → S' k = 0) ∧ (¬ x1 = nI k → S' k = S k))
    (hp : ∀ tb wy, (∀ k w, k ≤ c → w ≤ 280 → ks_Cell c W V S' tb wy k w) → post (nI c, nI L, aw, av, au, af, tb, wy, st, fx, pr)) :
    ∀ k n tb wy, k ≤ c → k < n → ks_Inv c W V S' tb wy k 281 → wX_fill_66 post x1 n (nI k + (-1)) (nI c) (nI L) aw av au af tb wy st fx pr := by
  have hV : ∀ i, i < c → V i ≤ 50 := fun i hi => (hG i hi).2.2.2.2.2.2.1
  have hS : ∀ i, i < c → S' i ≤ 2 := by
    intro i hi
    by_cases e : x1 = nI i
    · rw [(hx i hi).1 e]; omega
    · rw [(hx i hi).2 e]; exact (hG i hi).2.2.2.2.2.2.2.2.1
  intro k
  induction k with
  | zero =>
    intro n tb wy _ hn hI
    obtain ⟨n, rfl⟩ : ∃ m, n = m + 1 := ⟨n - 1, by omega⟩
    refine br_t ks_neg1 (hp tb wy (fun k w h1 h2 => hI k w h1 h2 ?_))
    omega
  | succ k ih =>
    intro n tb wy hk hn hI
    obtain ⟨n, rfl⟩ : ∃ m, n = m + 1 := ⟨n - 1, by omega⟩
    rw [pk_m1]
    obtain ⟨g1, g2, g3, g4, g5, g6, g7, g8, g9, g10⟩ := hG k (by omega)
    have hI' : ks_Inv c W V S' tb wy k 0 := by
      intro k' w' h1 h2 h3
      exact hI k' w' h1 h2 (by omega)
    have hgo : ∃ n90 : Nat, wX_fill_90 post (wX_fill_66 post x1 n) x1 (nI k) (nI (S' k)) n90 0 (nI c) (nI L) aw av au af tb wy st fx pr :=
      ⟨282, ks_f90 (by omega) hc g1 g2 g6 hV hS (fun tb wy h => ih n tb wy (by omega) (by omega) h) 282 0 tb wy (by omega) (by omega) hI'⟩
    refine br_f (nI_pos (by omega)) ⟨fun h => ?_, fun h => ⟨vp_in_nI (by omega) (by decide), nm_r (e' := nI (S' k)) ?_ hgo⟩⟩
    · rw [(hx k (by omega)).1 h.symm] at hgo
      exact hgo
    · rw [nI_clamp (by omega), (hx k (by omega)).2 (fun z => h z.symm), g3]
theorem ks_cell_c {w : Nat} (t : Int32) (y : Int32) (hw : w ≤ 280) (ht : t = if w = 0 then 0 else -100000) (hy : y = if w = 0 then 1 else 0) (h : ∀ w', w' < w → ks_Cell c W V S tb wy c w') : ∀ w', w' < w + 1 → ks_Cell c W V S (upd tb (281 * c + w) t) (upd wy (281 * c + w) y) c w' := by
  intro w' h1
  by_cases e : w' = w
  · subst e
    unfold ks_Cell
    rw [pk_us, pk_us, Nat.sub_self, ht, hy]
    by_cases z : w' = 0
    · subst z
      rw [if_pos rfl, if_pos rfl, ks_z]
      exact ⟨Or.inr ⟨0, rfl, (ks_R_end 0 0).mpr ⟨rfl, rfl⟩, fun v hv => by rw [((ks_R_end 0 v).mp hv).2]; exact Nat.le_refl 0⟩, rfl⟩
    · rw [if_neg z, if_neg z, ks_none]
      refine ⟨ks_Top_none (fun v hv => z ((ks_R_end w' v).mp hv).1), ?_⟩
      show (0 : Int32) = nI (if w' = 0 then 1 else 0)
      rw [if_neg z]; rfl
  · have hne : 281 * c + w' ≠ 281 * c + w := by omega
    unfold ks_Cell
    rw [pk_un hne, pk_un hne]
    exact h w' (by omega)
theorem ks_f11 {post : SX → Prop} {x1 : Int32} {S' : Nat → Nat} (hc : c ≤ 7) (hG : ks_G c aw av au af W V S F) (hx : ∀ k, k < c → (x1 = nI k → S' k = 0) ∧ (¬ x1 = nI k → S' k = S k))
    (hp : ∀ tb wy, (∀ k w, k ≤ c → w ≤ 280 → ks_Cell c W V S' tb wy k w) → post (nI c, nI L, aw, av, au, af, tb, wy, st, fx, pr)) :
    ∀ n w tb wy, w ≤ 281 → 281 - w < n → (∀ w', w' < w → ks_Cell c W V S' tb wy c w') → wX_fill_11 post x1 (nI (281 * c)) (nI c) (nI L) n (nI w) aw av au af tb wy st fx pr := by
  intro n
  induction n with
  | zero => intro w tb wy _ h; exact absurd h (Nat.not_lt_zero _)
  | succ n ih =>
    intro w tb wy h1 h2 hI
    refine pk_lt 280 w (fun h => nm_r (ks_sub1 c) ⟨c + 1, ?_⟩) (fun h => ?_)
    · refine ks_f66 hc hG hx hp c (c + 1) tb wy (Nat.le_refl _) (by omega) ?_
      intro k' w' h3 h4 h5
      have e : k' = c := by omega
      subst e
      exact hI w' (by omega)
    · have ej : (nI (281 * c + w)).toNatClampNeg = 281 * c + w := nI_clamp (by omega)
      refine pk_eq w 0 (fun hz => ?_) (fun hz => ?_)
      · unfold wX_fill_35
        rw [nI_add, ej]
        refine ⟨vp_in_nI (by omega) (by decide), nm_e (br_t ?_ ⟨vp_in_nI (by omega) (by decide), nm_e (nm_r (nI_1 w) ?_)⟩)⟩
        · rw [hz]; rfl
        · exact ih (w + 1) _ _ (by omega) (by omega) (ks_cell_c 0 1 h (if_pos hz).symm (if_pos hz).symm hI)
      · unfold wX_fill_35
        rw [nI_add, ej]
        refine ⟨vp_in_nI (by omega) (by decide), nm_e (br_f (nI_ne0 (by omega) (by omega)) ⟨vp_in_nI (by omega) (by decide), nm_e (nm_r (nI_1 w) ?_)⟩)⟩
        exact ih (w + 1) _ _ (by omega) (by omega) (ks_cell_c (-100000) 0 h (if_neg hz).symm (if_neg hz).symm hI)
theorem ks_fill {post : SX → Prop} {x1 : Int32} {S' : Nat → Nat} (hc : c ≤ 7) (hG : ks_G c aw av au af W V S F) (hx : ∀ k, k < c → (x1 = nI k → S' k = 0) ∧ (¬ x1 = nI k → S' k = S k))
    (hp : ∀ tb wy, (∀ k w, k ≤ c → w ≤ 280 → ks_Cell c W V S' tb wy k w) → post (nI c, nI L, aw, av, au, af, tb, wy, st, fx, pr)) : wpX_fill post (nI c, nI L, aw, av, au, af, tb, wy, st, fx, pr) x1 := by
  refine nm_r (ks_m281 c) ⟨282, ?_⟩
  exact ks_f11 hc hG hx hp 282 0 tb wy (by omega) (by omega) (fun w' h => absurd h (Nat.not_lt_zero _))
theorem ks_fill1 {post : SX → Prop} (hc : c ≤ 7) (hG : ks_G c aw av au af W V S F)
    (hp : ∀ tb wy, (∀ k w, k ≤ c → w ≤ 280 → ks_Cell c W V S tb wy k w) → post (nI c, nI L, aw, av, au, af, tb, wy, st, fx, pr)) : wpX_fill post (nI c, nI L, aw, av, au, af, tb, wy, st, fx, pr) (-1) := by
  refine ks_fill (S' := S) hc hG (fun k hk => ⟨fun h => ?_, fun _ => rfl⟩) hp
  have h2 : ¬ nI k < 0 := nI_pos (by omega)
  rw [← h] at h2
  exact absurd (by decide) h2
theorem ks_bw4 {post : Int32 → Prop} (hL : L ≤ 60)
    (hp : ∀ b, ks_BW (fun w => (tb w).toInt) L b → post (nI b)) :
    ∀ n w b, w ≤ L + 1 → b < w → L + 1 - w < n → (∀ w', w' < w → (tb w').toInt ≤ (tb b).toInt ∧ (w' < b → (tb w').toInt < (tb b).toInt)) → wX_bestWeight_4 post (nI c) (nI L) aw av au af tb wy st fx pr n (nI b) (nI w) := by
  intro n
  induction n with
  | zero => intro w b _ _ h; exact absurd h (Nat.not_lt_zero _)
  | succ n ih =>
    intro w b h1 h2 h3 hI
    refine pk_lt L w (fun h => hp b ⟨by omega, fun w' hw' => hI w' (by omega)⟩) (fun h => ⟨vp_in_nI (by omega) (by decide), vp_in_nI (by omega) (by decide), ?_⟩)
    rw [nI_clamp (by omega), nI_clamp (by omega)]
    refine ⟨fun hle => nm_r (nI_1 w) (ih (w + 1) b (by omega) (by omega) (by omega) ?_), fun hgt => nm_r (nI_1 w) (ih (w + 1) w (by omega) (by omega) (by omega) ?_)⟩
    · rw [Int32.le_iff_toInt_le] at hle
      intro w' hw'
      by_cases e : w' = w
      · subst e; exact ⟨hle, fun z => by omega⟩
      · exact hI w' (by omega)
    · rw [Int32.le_iff_toInt_le] at hgt
      intro w' hw'
      by_cases e : w' = w
      · subst e; exact ⟨Int.le_refl _, fun z => by omega⟩
      · have := hI w' (by omega)
        exact ⟨by omega, fun _ => by omega⟩
theorem ks_bw {post : Int32 → Prop} (hL : L ≤ 60) (hp : ∀ b, ks_BW (fun w => (tb w).toInt) L b → post (nI b)) : wpX_bestWeight post (nI c, nI L, aw, av, au, af, tb, wy, st, fx, pr) := by
  refine ⟨L + 1, ?_⟩
  refine ks_bw4 hL hp (L + 1) 1 0 (by omega) (by omega) (by omega) ?_
  intro w' h
  have e : w' = 0 := by omega
  subst e
  exact ⟨Int.le_refl _, fun z => absurd z (Nat.lt_irrefl _)⟩
theorem ks_sw4 {post : Int32 → Prop} (hL : L ≤ 60)
    (hp : ∀ b, ks_BW (fun w => (st w).toInt) L b → post (nI b)) :
    ∀ n w b, w ≤ L + 1 → b < w → L + 1 - w < n → (∀ w', w' < w → (st w').toInt ≤ (st b).toInt ∧ (w' < b → (st w').toInt < (st b).toInt)) → wX_strictWeight_4 post (nI c) (nI L) aw av au af tb wy st fx pr n (nI b) (nI w) := by
  intro n
  induction n with
  | zero => intro w b _ _ h; exact absurd h (Nat.not_lt_zero _)
  | succ n ih =>
    intro w b h1 h2 h3 hI
    refine pk_lt L w (fun h => hp b ⟨by omega, fun w' hw' => hI w' (by omega)⟩) (fun h => ⟨vp_in_nI (by omega) (by decide), vp_in_nI (by omega) (by decide), ?_⟩)
    rw [nI_clamp (by omega), nI_clamp (by omega)]
    refine ⟨fun hle => nm_r (nI_1 w) (ih (w + 1) b (by omega) (by omega) (by omega) ?_), fun hgt => nm_r (nI_1 w) (ih (w + 1) w (by omega) (by omega) (by omega) ?_)⟩
    · rw [Int32.le_iff_toInt_le] at hle
      intro w' hw'
      by_cases e : w' = w
      · subst e; exact ⟨hle, fun z => by omega⟩
      · exact hI w' (by omega)
    · rw [Int32.le_iff_toInt_le] at hgt
      intro w' hw'
      by_cases e : w' = w
      · subst e; exact ⟨Int.le_refl _, fun z => by omega⟩
      · have := hI w' (by omega)
        exact ⟨by omega, fun _ => by omega⟩
theorem ks_sw {post : Int32 → Prop} (hL : L ≤ 60) (hp : ∀ b, ks_BW (fun w => (st w).toInt) L b → post (nI b)) : wpX_strictWeight post (nI c, nI L, aw, av, au, af, tb, wy, st, fx, pr) := by
  refine ⟨L + 1, ?_⟩
  refine ks_sw4 hL hp (L + 1) 1 0 (by omega) (by omega) (by omega) ?_
  intro w' h
  have e : w' = 0 := by omega
  subst e
  exact ⟨Int.le_refl _, fun z => absurd z (Nat.lt_irrefl _)⟩
end
end
section
/-! Y: the choice of a code, the number of codes, strictness -/
theorem ks_3c {c : Nat} (hc : c ≤ 7) : 3 ^ c ≤ 2187 := Nat.pow_le_pow_right (n := 3) (by omega) hc
theorem ks_wb {c : Nat} {d W S : Nat → Nat} (hc : c ≤ 7) (hd : ∀ i, i < c → d i ≤ 2) (hW : ∀ i, i < c → W i ≤ 20) : ks_dot d W c ≤ 280 := by
  have a := ks_dot_le (d := d) (W := W) 40 c (fun i hi => Nat.mul_le_mul (hd i hi) (hW i hi))
  omega
theorem ks_vb {c : Nat} {d V : Nat → Nat} (hc : c ≤ 7) (hd : ∀ i, i < c → d i ≤ 2) (hV : ∀ i, i < c → V i ≤ 50) : ks_dot d V c ≤ 700 := by
  have a := ks_dot_le (d := d) (W := V) 100 c (fun i hi => Nat.mul_le_mul (hd i hi) (hV i hi))
  omega
section
variable {c L : Nat} {aw av au af tk : Nat → Int32} {W V S F : Nat → Nat} {hv wo : Int32}
theorem ks_ch25 {post : Int32 → SY → Prop} (hc : c ≤ 7) (hG : ks_G c aw av au af W V S F) :
    ∀ j n r H T tk, j ≤ c → j < n → r < 2 ^ 31 →
      ((∀ i, i < j → ks_d j r i ≤ S i) → ks_q j r = 0 → ∀ tk', (∀ i, i < j → tk' i = nI (ks_d j r i)) → (∀ i, j ≤ i → tk' i = tk i) → post 1 (nI c, nI L, nI (H + ks_dot (ks_d j r) W j), nI (T + ks_dot (ks_d j r) V j), aw, av, au, af, tk')) →
      (¬ ((∀ i, i < j → ks_d j r i ≤ S i) ∧ ks_q j r = 0) → ∀ hv wo tk, post 0 (nI c, nI L, hv, wo, aw, av, au, af, tk)) →
      wY_choice_25 post (nI c) (nI L) n (nI r) (nI j + (-1)) (nI H) (nI T) aw av au af tk := by
  intro j
  induction j with
  | zero =>
    intro n r H T tk _ hn hr h1 h0
    obtain ⟨n, rfl⟩ : ∃ m, n = m + 1 := ⟨n - 1, by omega⟩
    refine br_t ks_neg1 (pk_eq r 0 (fun e => ?_) (fun e => ?_))
    · exact h1 (fun i hi => absurd hi (Nat.not_lt_zero _)) e tk (fun i hi => absurd hi (Nat.not_lt_zero _)) (fun i _ => rfl)
    · exact h0 (fun z => e z.2) _ _ _
  | succ j ih =>
    intro n r H T tk hj hn hr h1 h0
    obtain ⟨n, rfl⟩ : ∃ m, n = m + 1 := ⟨n - 1, by omega⟩
    rw [pk_m1]
    obtain ⟨g1, g2, g3, g4, g5, g6, g7, g8, g9, g10⟩ := hG j (by omega)
    refine br_f (nI_pos (by omega)) (br_f (nI_ge (b := 7) (by omega) (by decide)) ⟨by decide, nm_r (pk_rem (a := r) (d := 3) hr (by decide) (by decide)) ⟨vp_in_nI (by omega) (by decide), ?_⟩⟩)
    rw [nI_clamp (show j < 2 ^ 31 by omega), g1, g2, g3]
    refine pk_le (r % 3) (S j) (fun h => ⟨vp_in_nI (by omega) (by decide), nm_e ⟨vp_in_nI (by omega) (by decide), nm_r (e' := nI (H + r % 3 * W j)) ?_ ⟨vp_in_nI (by omega) (by decide), nm_r (e' := nI (T + r % 3 * V j)) ?_ ⟨by decide, nm_r (pk_div (a := r) (d := 3) hr (by decide) (by decide)) (nm_e ?_)⟩⟩⟩⟩) (fun h => ?_)
    · rw [pk_mul, nI_add]
    · rw [pk_mul, nI_add]
    · refine ih n (r / 3) (H + r % 3 * W j) (T + r % 3 * V j) (upd tk j (nI (r % 3))) (by omega) (by omega) (by omega) ?_ ?_
      · intro k1 k2 tk' k3 k4
        have e1 : H + r % 3 * W j + ks_dot (ks_d j (r / 3)) W j = H + ks_dot (ks_d (j + 1) r) W (j + 1) := by rw [ks_dd_s]; omega
        have e2 : T + r % 3 * V j + ks_dot (ks_d j (r / 3)) V j = T + ks_dot (ks_d (j + 1) r) V (j + 1) := by rw [ks_dd_s]; omega
        rw [e1, e2]
        refine h1 ((ks_dv_s j r).mpr ⟨h, k1⟩) k2 tk' (fun i hi => ?_) (fun i hi => ?_)
        · by_cases e : i = j
          · subst e; rw [k4 i (Nat.le_refl _), pk_us, ks_d_n]
          · rw [k3 i (by omega), ks_d_lt e]
        · rw [k4 i (by omega), pk_un (by omega)]
      · intro k
        exact h0 (fun z => k ⟨((ks_dv_s j r).mp z.1).2, z.2⟩)
    · exact h0 (fun z => absurd ((ks_dv_s j r).mp z.1).1 (by omega)) _ _ _
theorem ks_choice {post : Int32 → SY → Prop} {r : Nat} (hc : c ≤ 7) (hG : ks_G c aw av au af W V S F) (hr : r < 2 ^ 31)
    (h1 : (∀ i, i < c → ks_d c r i ≤ S i) → r < 3 ^ c → ∀ tk, (∀ i, i < c → tk i = nI (ks_d c r i)) → post 1 (nI c, nI L, nI (ks_dot (ks_d c r) W c), nI (ks_dot (ks_d c r) V c), aw, av, au, af, tk))
    (h0 : ¬ ((∀ i, i < c → ks_d c r i ≤ S i) ∧ r < 3 ^ c) → ∀ hv wo tk, post 0 (nI c, nI L, hv, wo, aw, av, au, af, tk)) : wpY_choice post (nI c, nI L, hv, wo, aw, av, au, af, tk) (nI r) := by
  refine br_t (nI_pos' hr) (nm_r (ks_sub1 c) ⟨c + 1, ?_⟩)
  refine ks_ch25 hc hG c (c + 1) r 0 0 tk (Nat.le_refl _) (by omega) hr ?_ ?_
  · intro k1 k2 tk' k3 _
    rw [Nat.zero_add, Nat.zero_add]
    exact h1 k1 ((ks_q_0 c r).mp k2) tk' k3
  · intro k
    exact h0 (fun z => k ⟨z.1, (ks_q_0 c r).mpr z.2⟩)
theorem ks_end4 {post : Int32 → Prop} (hc : c ≤ 7) (hp : post (nI (3 ^ c))) : ∀ n i, i ≤ c → c - i < n → wY_end_4 post (nI c) (nI L) hv wo aw av au af tk n (nI (3 ^ i)) (nI i) := by
  intro n
  induction n with
  | zero => intro i _ h; exact absurd h (Nat.not_lt_zero _)
  | succ n ih =>
    intro i h1 h2
    refine pk_le c i (fun h => ?_) (fun h => nm_r (e' := nI (3 ^ (i + 1))) ?_ (nm_r (nI_1 i) (ih (i + 1) (by omega) (by omega))))
    · have e : i = c := by omega
      subst e; exact hp
    · rw [Nat.pow_succ, Nat.mul_comm]
      exact pk_mul 3 (3 ^ i)
theorem ks_end {post : Int32 → Prop} (hc : c ≤ 7) (hp : post (nI (3 ^ c))) : wpY_end post (nI c, nI L, hv, wo, aw, av, au, af, tk) :=
  ⟨c + 1, ks_end4 hc hp (c + 1) 0 (by omega) (by omega)⟩
/-- no two goods of one family are taken -/
def ks_St (c : Nat) (F d : Nat → Nat) : Prop := ∀ i j, i < c → j < i → 0 < d i → 0 < d j → F i ≠ F j
theorem ks_st18 {post : Int32 → Prop} {J : Int32 → Prop} {d : Nat → Nat} {i : Nat} (hc : c ≤ 7) (hG : ks_G c aw av au af W V S F) (hi : i < c) (hd : ∀ i, i < c → d i ≤ 2) (ht : ∀ i, i < c → tk i = nI (d i))
    (h0 : ¬ ks_St c F d → post 0) (hJ : (∀ j, j < i → 0 < d i → 0 < d j → F i ≠ F j) → J (nI (i + 1))) :
    ∀ n j, j ≤ i → i - j < n → (∀ b, b < j → 0 < d i → 0 < d b → F i ≠ F b) → wY_strict_18 post J (nI i) (nI c) (nI L) hv wo aw av au af tk n (nI j) := by
  intro n
  induction n with
  | zero => intro j _ h; exact absurd h (Nat.not_lt_zero _)
  | succ n ih =>
    intro j h1 h2 hI
    have di := hd i hi
    have ei : (nI i).toNatClampNeg = i := nI_clamp (by omega)
    have ej : (nI j).toNatClampNeg = j := nI_clamp (by omega)
    have fi := (hG i hi).2.2.2.1
    have f3 := (hG i hi).2.2.2.2.2.2.2.2.2
    refine pk_le i j (fun h => nm_r (nI_1 i) (hJ (fun b hb => hI b (by omega)))) (fun h => ⟨vp_in_nI (by omega) (by decide), ?_⟩)
    have dj := hd j (by omega)
    have fj := (hG j (by omega)).2.2.2.1
    have fj3 := (hG j (by omega)).2.2.2.2.2.2.2.2.2
    have hnx : (0 < d i → 0 < d j → F i ≠ F j) → ∀ b, b < j + 1 → 0 < d i → 0 < d b → F i ≠ F b := by
      intro hh b hb
      by_cases e : b = j
      · subst e; exact hh
      · exact hI b (by omega)
    rw [ei, ej, ht i hi, ht j (by omega), fi, fj]
    refine pk_le (d i) 0 (fun z => nm_r (nI_1 j) (ih (j + 1) (by omega) (by omega) (hnx (fun y => absurd y (by omega))))) (fun z => ⟨vp_in_nI (by omega) (by decide), ?_⟩)
    refine pk_le (d j) 0 (fun z2 => nm_r (nI_1 j) (ih (j + 1) (by omega) (by omega) (hnx (fun _ y => absurd y (by omega))))) (fun z2 => ⟨vp_in_nI (by omega) (by decide), vp_in_nI (by omega) (by decide), ?_⟩)
    refine pk_eq (F i) (F j) (fun e => h0 (fun hs => hs i j hi h z z2 e)) (fun e => nm_r (nI_1 j) (ih (j + 1) (by omega) (by omega) (hnx (fun _ _ => e))))
theorem ks_st2 {post : Int32 → Prop} {d : Nat → Nat} (hc : c ≤ 7) (hG : ks_G c aw av au af W V S F) (hd : ∀ i, i < c → d i ≤ 2) (ht : ∀ i, i < c → tk i = nI (d i))
    (h1 : ks_St c F d → post 1) (h0 : ¬ ks_St c F d → post 0) :
    ∀ n i, i ≤ c → c - i < n → (∀ a b, a < i → b < a → 0 < d a → 0 < d b → F a ≠ F b) → wY_strict_2 post (nI c) (nI L) hv wo aw av au af tk n (nI i) := by
  intro n
  induction n with
  | zero => intro j _ h; exact absurd h (Nat.not_lt_zero _)
  | succ n ih =>
    intro i k1 k2 hI
    refine pk_le c i (fun h => h1 (fun a b ha => hI a b (by omega))) (fun h => br_f (nI_ge (b := 7) (by omega) (by decide)) ⟨i + 1, ?_⟩)
    refine ks_st18 hc hG h hd ht h0 (fun hn => ih (i + 1) (by omega) (by omega) ?_) (i + 1) 0 (by omega) (by omega) (fun b hb => absurd hb (Nat.not_lt_zero _))
    intro a b ha hb
    by_cases e : a = i
    · subst e; exact hn b hb
    · exact hI a b (by omega) hb
theorem ks_strict {post : Int32 → Prop} {d : Nat → Nat} (hc : c ≤ 7) (hG : ks_G c aw av au af W V S F) (hd : ∀ i, i < c → d i ≤ 2) (ht : ∀ i, i < c → tk i = nI (d i))
    (h1 : ks_St c F d → post 1) (h0 : ¬ ks_St c F d → post 0) : wpY_strict post (nI c, nI L, hv, wo, aw, av, au, af, tk) :=
  ⟨c + 1, ks_st2 hc hG hd ht h1 h0 (c + 1) 0 (by omega) (by omega) (fun a b ha => absurd ha (Nat.not_lt_zero _))⟩
end
end
section
/-! Y: the search over all codes, and the counts -/
def ks_A (c : Nat) (S F : Nat → Nat) (fl no : Int32) (d : Nat → Nat) : Prop := (∀ i, i < c → d i ≤ S i) ∧ (¬ fl = 0 → ks_St c F d) ∧ (∀ o, o < c → no = nI o → d o = 0)
def ks_BestTo (c : Nat) (W V : Nat → Nat) (L : Nat) (A : (Nat → Nat) → Prop) (n r : Nat) : Prop :=
  r < 3 ^ c ∧ A (ks_d c r) ∧ ks_dot (ks_d c r) W c ≤ L ∧ ∀ s, s < n → A (ks_d c s) → ks_dot (ks_d c s) W c ≤ L →
    ks_dot (ks_d c s) V c < ks_dot (ks_d c r) V c ∨ (ks_dot (ks_d c s) V c = ks_dot (ks_d c r) V c ∧ (ks_dot (ks_d c r) W c < ks_dot (ks_d c s) W c ∨ (ks_dot (ks_d c r) W c = ks_dot (ks_d c s) W c ∧ r ≤ s)))
theorem ks_BestTo_skip {c L n r : Nat} {W V : Nat → Nat} {A : (Nat → Nat) → Prop} (h : ks_BestTo c W V L A n r) (hn : ¬ (A (ks_d c n) ∧ ks_dot (ks_d c n) W c ≤ L)) : ks_BestTo c W V L A (n + 1) r := by
  obtain ⟨h1, h2, h3, h4⟩ := h
  refine ⟨h1, h2, h3, fun s hs a b => ?_⟩
  by_cases e : s = n
  · subst e; exact absurd ⟨a, b⟩ hn
  · exact h4 s (by omega) a b
theorem ks_BestTo_keep {c L n r : Nat} {W V : Nat → Nat} {A : (Nat → Nat) → Prop} (h : ks_BestTo c W V L A n r) (hr : r ≤ n) (hn : ks_dot (ks_d c n) V c < ks_dot (ks_d c r) V c ∨ (ks_dot (ks_d c n) V c = ks_dot (ks_d c r) V c ∧ ks_dot (ks_d c r) W c ≤ ks_dot (ks_d c n) W c)) : ks_BestTo c W V L A (n + 1) r := by
  obtain ⟨h1, h2, h3, h4⟩ := h
  refine ⟨h1, h2, h3, fun s hs a b => ?_⟩
  by_cases e : s = n
  · subst e; omega
  · exact h4 s (by omega) a b
theorem ks_BestTo_take {c L n r : Nat} {W V : Nat → Nat} {A : (Nat → Nat) → Prop} (h : ks_BestTo c W V L A n r) (h1 : n < 3 ^ c) (h2 : A (ks_d c n)) (h3 : ks_dot (ks_d c n) W c ≤ L) (hn : ks_dot (ks_d c r) V c < ks_dot (ks_d c n) V c ∨ (ks_dot (ks_d c n) V c = ks_dot (ks_d c r) V c ∧ ks_dot (ks_d c n) W c < ks_dot (ks_d c r) W c)) : ks_BestTo c W V L A (n + 1) n := by
  obtain ⟨k1, k2, k3, h4⟩ := h
  refine ⟨h1, h2, h3, fun s hs a b => ?_⟩
  by_cases e : s = n
  · subst e; omega
  · have := h4 s (by omega) a b
    omega
section
variable {c L : Nat} {aw av au af tk : Nat → Int32} {W V S F : Nat → Nat} {hv wo : Int32}
theorem ks_se79 {post : Int32 → SY → Prop} {fl no : Int32} {n s r : Nat} (hc : c ≤ 7) (hG : ks_G c aw av au af W V S F) (hs : s < 3 ^ c) (hr : r ≤ s) (hB : ks_BestTo c W V L (ks_A c S F fl no) s r)
    (hA : ks_A c S F fl no (ks_d c s)) (hw : ks_dot (ks_d c s) W c ≤ L)
    (ih : ∀ r, r ≤ s + 1 → ks_BestTo c W V L (ks_A c S F fl no) (s + 1) r → ∀ hv wo tk, wY_search_17 post fl no (nI (3 ^ c)) n (nI r) (nI (ks_dot (ks_d c r) V c)) (nI (ks_dot (ks_d c r) W c)) (nI (s + 1)) (nI c) (nI L) hv wo aw av au af tk) :
    wY_search_79 post (wY_search_17 post fl no (nI (3 ^ c)) n) fl no (nI (3 ^ c)) (nI r) (nI (ks_dot (ks_d c r) V c)) (nI (ks_dot (ks_d c r) W c)) (nI s) (nI c) (nI L) (nI (ks_dot (ks_d c s) W c)) (nI (ks_dot (ks_d c s) V c)) aw av au af tk := by
  have b1 := ks_wb (S := S) hc (fun i _ => ks_d_le c s i) (fun i hi => (hG i hi).2.2.2.2.2.1)
  have b2 := ks_wb (S := S) hc (fun i _ => ks_d_le c r i) (fun i hi => (hG i hi).2.2.2.2.2.1)
  have b3 := ks_vb hc (fun i _ => ks_d_le c s i) (fun i hi => (hG i hi).2.2.2.2.2.2.1)
  have b4 := ks_vb hc (fun i _ => ks_d_le c r i) (fun i hi => (hG i hi).2.2.2.2.2.2.1)
  have htake : (ks_dot (ks_d c r) V c < ks_dot (ks_d c s) V c ∨ (ks_dot (ks_d c s) V c = ks_dot (ks_d c r) V c ∧ ks_dot (ks_d c s) W c < ks_dot (ks_d c r) W c)) → wY_search_106 post (wY_search_17 post fl no (nI (3 ^ c)) n) fl no (nI (3 ^ c)) (nI s) (nI c) (nI L) (nI (ks_dot (ks_d c s) W c)) (nI (ks_dot (ks_d c s) V c)) aw av au af tk :=
    fun h => nm_r (nI_1 s) (ih s (by omega) (ks_BestTo_take hB hs hA hw h) _ _ _)
  refine pk_lt (ks_dot (ks_d c r) V c) (ks_dot (ks_d c s) V c) (fun h => htake (Or.inl h)) (fun h => ?_)
  refine pk_eq (ks_dot (ks_d c s) V c) (ks_dot (ks_d c r) V c) (fun h2 => ?_) (fun h2 => nm_r (nI_1 s) (ih r (by omega) (ks_BestTo_keep hB hr (by omega)) _ _ _))
  exact pk_le (ks_dot (ks_d c r) W c) (ks_dot (ks_d c s) W c) (fun h3 => nm_r (nI_1 s) (ih r (by omega) (ks_BestTo_keep hB hr (by omega)) _ _ _)) (fun h3 => htake (Or.inr ⟨h2, h3⟩))
theorem ks_se17 {post : Int32 → SY → Prop} {fl no : Int32} (hc : c ≤ 7) (hL : L ≤ 60) (hG : ks_G c aw av au af W V S F) (hno : no < 0 ∨ ∃ o, o < c ∧ no = nI o)
    (hp : ∀ r hv wo tk, ks_Best c W V L (ks_A c S F fl no) r → post (nI r) (nI c, nI L, hv, wo, aw, av, au, af, tk)) :
    ∀ n s r hv wo tk, s ≤ 3 ^ c → 3 ^ c - s < n → r ≤ s → ks_BestTo c W V L (ks_A c S F fl no) s r → wY_search_17 post fl no (nI (3 ^ c)) n (nI r) (nI (ks_dot (ks_d c r) V c)) (nI (ks_dot (ks_d c r) W c)) (nI s) (nI c) (nI L) hv wo aw av au af tk := by
  intro n
  have h3c := ks_3c hc
  induction n with
  | zero => intro s r hv wo tk _ h; exact absurd h (Nat.not_lt_zero _)
  | succ n ih =>
    intro s r hv wo tk h1 h2 hr hB
    refine pk_le (3 ^ c) s (fun h => ?_) (fun h => ?_)
    · have e : s = 3 ^ c := by omega
      subst e
      exact hp r _ _ _ hB
    · have ih' : ∀ r, r ≤ s + 1 → ks_BestTo c W V L (ks_A c S F fl no) (s + 1) r → ∀ hv wo tk, wY_search_17 post fl no (nI (3 ^ c)) n (nI r) (nI (ks_dot (ks_d c r) V c)) (nI (ks_dot (ks_d c r) W c)) (nI (s + 1)) (nI c) (nI L) hv wo aw av au af tk :=
        fun r a b hv wo tk => ih (s + 1) r hv wo tk (by omega) (by omega) a b
      have b1 := ks_wb (S := S) hc (fun i _ => ks_d_le c s i) (fun i hi => (hG i hi).2.2.2.2.2.1)
      have h58 : ¬ (ks_A c S F fl no (ks_d c s) ∧ ks_dot (ks_d c s) W c ≤ L) → ∀ hv wo tk, wY_search_58 post (wY_search_17 post fl no (nI (3 ^ c)) n) fl no (nI (3 ^ c)) (nI r) (nI (ks_dot (ks_d c r) V c)) (nI (ks_dot (ks_d c r) W c)) (nI s) (nI c) (nI L) hv wo aw av au af tk :=
        fun hn hv wo tk => br_t rfl (nm_r (nI_1 s) (ih' r (by omega) (ks_BestTo_skip hB hn) _ _ _))
      refine ks_choice hc hG (by omega) (fun k1 k2 tk k3 => ?_) (fun k hv wo tk => ?_)
      · refine br_f (by decide) (pk_lt L (ks_dot (ks_d c s) W c) (fun z => h58 (fun y => by omega) _ _ _) (fun z => ?_))
        have h54 : (¬ fl = 0 → ks_St c F (ks_d c s)) → wY_search_54 post (wY_search_17 post fl no (nI (3 ^ c)) n) fl no (nI (3 ^ c)) (nI r) (nI (ks_dot (ks_d c r) V c)) (nI (ks_dot (ks_d c r) W c)) (nI s) (nI c) (nI L) (nI (ks_dot (ks_d c s) W c)) (nI (ks_dot (ks_d c s) V c)) aw av au af tk := by
          intro hst
          refine br_f (by decide) ?_
          rcases hno with hno | ⟨o, ho, rfl⟩
          · refine br_t hno (ks_se79 hc hG h hr hB ⟨k1, hst, fun o ho e => ?_⟩ z ih')
            rw [e] at hno
            exact absurd hno (nI_pos (by omega))
          · refine br_f (nI_pos (by omega)) ⟨vp_in_nI (by omega) (by decide), ?_⟩
            have dl := ks_d_le c s o
            rw [nI_clamp (by omega), k3 o ho]
            refine pk_eq (ks_d c s o) 0 (fun e => ks_se79 hc hG h hr hB ⟨k1, hst, fun o' ho' e' => ?_⟩ z ih') (fun e => nm_r (nI_1 s) (ih' r (by omega) (ks_BestTo_skip hB (fun y => e (y.1.2.2 o ho rfl))) _ _ _))
            rw [nI_eq (by omega) (by omega)] at e'
            subst e'; exact e
        refine br_c (fun hf => h54 (fun z => absurd hf z)) (fun hf => ?_)
        exact ks_strict hc hG (fun i _ => ks_d_le c s i) k3 (fun hs => br_f (by decide) (h54 (fun _ => hs))) (fun hs => br_t rfl (h58 (fun y => hs (y.1.2.1 hf)) _ _ _))
      · exact br_t rfl (h58 (fun y => k ⟨y.1.1, h⟩) _ _ _)
theorem ks_search {post : Int32 → SY → Prop} {fl no : Int32} (hc : c ≤ 7) (hL : L ≤ 60) (hG : ks_G c aw av au af W V S F) (hno : no < 0 ∨ ∃ o, o < c ∧ no = nI o)
    (hp : ∀ r hv wo tk, ks_Best c W V L (ks_A c S F fl no) r → post (nI r) (nI c, nI L, hv, wo, aw, av, au, af, tk)) : wpY_search post (nI c, nI L, hv, wo, aw, av, au, af, tk) fl no := by
  refine ks_end hc ⟨3 ^ c + 1, ?_⟩
  have z : ∀ X : Nat → Nat, ks_dot (ks_d c 0) X c = 0 := fun X => ks_dot_zero c (fun i _ => ks_d_0 c i)
  have h := ks_se17 hc hL hG hno hp (3 ^ c + 1) 0 0 hv wo tk (Nat.zero_le _) (Nat.lt_succ_of_le (Nat.sub_le _ _)) (Nat.le_refl _) ⟨Nat.pow_pos (by omega), ⟨fun i _ => by rw [ks_d_0]; omega, fun _ i j _ _ a => by rw [ks_d_0] at a; omega, fun o _ _ => ks_d_0 c o⟩, by rw [z]; omega, fun s hs => absurd hs (Nat.not_lt_zero _)⟩
  rw [z, z] at h
  exact h
theorem ks_valueAt {post : Int32 → SY → Prop} {r : Nat} (hc : c ≤ 7) (hG : ks_G c aw av au af W V S F) (h1 : ∀ i, i < c → ks_d c r i ≤ S i) (h2 : r < 3 ^ c) (hp : ∀ hv wo tk, post (nI (ks_dot (ks_d c r) V c)) (nI c, nI L, hv, wo, aw, av, au, af, tk)) : wpY_valueAt post (nI c, nI L, hv, wo, aw, av, au, af, tk) (nI r) := by
  have h3c := ks_3c hc
  unfold wpY_valueAt
  dsimp only
  refine ks_choice hc hG (by omega) (fun k1 k2 tk k3 => br_f (by decide) (hp _ _ _)) (fun k hv wo tk => absurd ⟨h1, h2⟩ k)
theorem ks_fit9 {post : Int32 → SY → Prop} {Q : Nat → Bool} (hc : c ≤ 7) (hL : L ≤ 60) (hG : ks_G c aw av au af W V S F)
    (hQ : ∀ s, s < 3 ^ c → (Q s = true ↔ (∀ i, i < c → ks_d c s i ≤ S i) ∧ ks_dot (ks_d c s) W c ≤ L))
    (hp : ∀ hv wo tk, post (nI (ks_nc Q (3 ^ c))) (nI c, nI L, hv, wo, aw, av, au, af, tk)) :
    ∀ n s hv wo tk, s ≤ 3 ^ c → 3 ^ c - s < n → wY_fitting_9 post (nI (3 ^ c)) n (nI (ks_nc Q s)) (nI s) (nI c) (nI L) hv wo aw av au af tk := by
  intro n
  have h3c := ks_3c hc
  induction n with
  | zero => intro s hv wo tk _ h; exact absurd h (Nat.not_lt_zero _)
  | succ n ih =>
    intro s hv wo tk h1 h2
    refine pk_le (3 ^ c) s (fun h => ?_) (fun h => ?_)
    · have e : s = 3 ^ c := by omega
      subst e
      exact hp _ _ _
    · have b1 := ks_wb (S := S) hc (fun i _ => ks_d_le c s i) (fun i hi => (hG i hi).2.2.2.2.2.1)
      have hq := hQ s h
      have hno : ¬ Q s = true → ks_nc Q (s + 1) = ks_nc Q s := by
        intro z
        rw [ks_nc_s, Bool.eq_false_iff.mpr z]; rfl
      have hyes : Q s = true → ks_nc Q (s + 1) = ks_nc Q s + 1 := by
        intro z
        rw [ks_nc_s, z]; rfl
      have hskip : ¬ Q s = true → ∀ hv wo tk, wY_fitting_9 post (nI (3 ^ c)) n (nI (ks_nc Q s)) (nI (s + 1)) (nI c) (nI L) hv wo aw av au af tk := by
        intro z hv wo tk
        rw [← hno z]
        exact ih (s + 1) hv wo tk (by omega) (by omega)
      refine ks_choice hc hG (by omega) (fun k1 k2 tk k3 => ?_) (fun k hv wo tk => ?_)
      · refine br_f (by decide) (pk_lt L (ks_dot (ks_d c s) W c) (fun z => nm_r (nI_1 s) (hskip (fun y => ?_) _ _ _)) (fun z => nm_r (nI_1 _) (nm_r (nI_1 s) ?_)))
        · have := (hq.mp y).2; omega
        · rw [← hyes (hq.mpr ⟨k1, z⟩)]
          exact ih (s + 1) _ _ _ (by omega) (by omega)
      · exact br_t rfl (nm_r (nI_1 s) (hskip (fun y => k ⟨(hq.mp y).1, h⟩) _ _ _))
theorem ks_fitting {post : Int32 → SY → Prop} {Q : Nat → Bool} (hc : c ≤ 7) (hL : L ≤ 60) (hG : ks_G c aw av au af W V S F)
    (hQ : ∀ s, s < 3 ^ c → (Q s = true ↔ (∀ i, i < c → ks_d c s i ≤ S i) ∧ ks_dot (ks_d c s) W c ≤ L))
    (hp : ∀ hv wo tk, post (nI (ks_nc Q (3 ^ c))) (nI c, nI L, hv, wo, aw, av, au, af, tk)) : wpY_fitting post (nI c, nI L, hv, wo, aw, av, au, af, tk) := by
  refine ks_end hc ⟨3 ^ c + 1, ?_⟩
  exact ks_fit9 hc hL hG hQ hp (3 ^ c + 1) 0 _ _ _ (Nat.zero_le _) (Nat.lt_succ_of_le (Nat.sub_le _ _))
theorem ks_hav10 {post : Int32 → SY → Prop} {Q : Nat → Bool} {w : Nat} (hc : c ≤ 7) (hw : w ≤ 300) (hG : ks_G c aw av au af W V S F)
    (hQ : ∀ s, s < 3 ^ c → (Q s = true ↔ (∀ i, i < c → ks_d c s i ≤ S i) ∧ ks_dot (ks_d c s) W c = w))
    (hp : ∀ hv wo tk, post (nI (ks_nc Q (3 ^ c))) (nI c, nI L, hv, wo, aw, av, au, af, tk)) :
    ∀ n s hv wo tk, s ≤ 3 ^ c → 3 ^ c - s < n → wY_having_10 post (nI w) (nI (3 ^ c)) n (nI (ks_nc Q s)) (nI s) (nI c) (nI L) hv wo aw av au af tk := by
  intro n
  have h3c := ks_3c hc
  induction n with
  | zero => intro s hv wo tk _ h; exact absurd h (Nat.not_lt_zero _)
  | succ n ih =>
    intro s hv wo tk h1 h2
    refine pk_le (3 ^ c) s (fun h => ?_) (fun h => ?_)
    · have e : s = 3 ^ c := by omega
      subst e
      exact hp _ _ _
    · have b1 := ks_wb (S := S) hc (fun i _ => ks_d_le c s i) (fun i hi => (hG i hi).2.2.2.2.2.1)
      have hq := hQ s h
      have hno : ¬ Q s = true → ks_nc Q (s + 1) = ks_nc Q s := by
        intro z
        rw [ks_nc_s, Bool.eq_false_iff.mpr z]; rfl
      have hyes : Q s = true → ks_nc Q (s + 1) = ks_nc Q s + 1 := by
        intro z
        rw [ks_nc_s, z]; rfl
      have hskip : ¬ Q s = true → ∀ hv wo tk, wY_having_10 post (nI w) (nI (3 ^ c)) n (nI (ks_nc Q s)) (nI (s + 1)) (nI c) (nI L) hv wo aw av au af tk := by
        intro z hv wo tk
        rw [← hno z]
        exact ih (s + 1) hv wo tk (by omega) (by omega)
      refine ks_choice hc hG (by omega) (fun k1 k2 tk k3 => ?_) (fun k hv wo tk => ?_)
      · refine br_f (by decide) (pk_eq (ks_dot (ks_d c s) W c) w (fun z => nm_r (nI_1 _) (nm_r (nI_1 s) ?_)) (fun z => nm_r (nI_1 s) (hskip (fun y => z (hq.mp y).2) _ _ _)))
        rw [← hyes (hq.mpr ⟨k1, z⟩)]
        exact ih (s + 1) _ _ _ (by omega) (by omega)
      · exact br_t rfl (nm_r (nI_1 s) (hskip (fun y => k ⟨(hq.mp y).1, h⟩) _ _ _))
theorem ks_having {post : Int32 → SY → Prop} {Q : Nat → Bool} {w : Nat} (hc : c ≤ 7) (hw : w ≤ 300) (hG : ks_G c aw av au af W V S F)
    (hQ : ∀ s, s < 3 ^ c → (Q s = true ↔ (∀ i, i < c → ks_d c s i ≤ S i) ∧ ks_dot (ks_d c s) W c = w))
    (hp : ∀ hv wo tk, post (nI (ks_nc Q (3 ^ c))) (nI c, nI L, hv, wo, aw, av, au, af, tk)) : wpY_having post (nI c, nI L, hv, wo, aw, av, au, af, tk) (nI w) := by
  refine ks_end hc ⟨3 ^ c + 1, ?_⟩
  exact ks_hav10 hc hw hG hQ hp (3 ^ c + 1) 0 _ _ _ (Nat.zero_le _) (Nat.lt_succ_of_le (Nat.sub_le _ _))
/-- m is the greatest weight up to L among the choices with codes below n -/
def ks_Fu (c : Nat) (W S : Nat → Nat) (L n m : Nat) : Prop := (m = 0 ∨ ∃ s, s < 3 ^ c ∧ (∀ i, i < c → ks_d c s i ≤ S i) ∧ ks_dot (ks_d c s) W c = m ∧ m ≤ L) ∧ ∀ s, s < n → (∀ i, i < c → ks_d c s i ≤ S i) → ks_dot (ks_d c s) W c ≤ L → ks_dot (ks_d c s) W c ≤ m
theorem ks_ful9 {post : Int32 → SY → Prop} (hc : c ≤ 7) (hL : L ≤ 60) (hG : ks_G c aw av au af W V S F)
    (hp : ∀ m hv wo tk, ks_Fu c W S L (3 ^ c) m → post (nI m) (nI c, nI L, hv, wo, aw, av, au, af, tk)) :
    ∀ n s m hv wo tk, s ≤ 3 ^ c → 3 ^ c - s < n → ks_Fu c W S L s m → wY_fullest_9 post (nI (3 ^ c)) n (nI m) (nI s) (nI c) (nI L) hv wo aw av au af tk := by
  intro n
  have h3c := ks_3c hc
  induction n with
  | zero => intro s m hv wo tk _ h; exact absurd h (Nat.not_lt_zero _)
  | succ n ih =>
    intro s m hv wo tk h1 h2 hF
    refine pk_le (3 ^ c) s (fun h => ?_) (fun h => ?_)
    · have e : s = 3 ^ c := by omega
      subst e
      exact hp _ _ _ _ hF
    · have b1 := ks_wb (S := S) hc (fun i _ => ks_d_le c s i) (fun i hi => (hG i hi).2.2.2.2.2.1)
      have hm : m ≤ 60 := by
        rcases hF.1 with z | ⟨_, _, _, _, z⟩ <;> omega
      have hskip : ((∀ i, i < c → ks_d c s i ≤ S i) → ks_dot (ks_d c s) W c ≤ L → ks_dot (ks_d c s) W c ≤ m) → ∀ hv wo tk, wY_fullest_9 post (nI (3 ^ c)) n (nI m) (nI (s + 1)) (nI c) (nI L) hv wo aw av au af tk := by
        intro z hv wo tk
        refine ih (s + 1) m hv wo tk (by omega) (by omega) ⟨hF.1, fun t ht => ?_⟩
        by_cases e : t = s
        · subst e; exact z
        · exact hF.2 t (by omega)
      refine ks_choice hc hG (by omega) (fun k1 k2 tk k3 => ?_) (fun k hv wo tk => ?_)
      · refine br_f (by decide) (pk_lt L (ks_dot (ks_d c s) W c) (fun z => nm_r (nI_1 s) (hskip (fun _ y => by omega) _ _ _)) (fun z => ?_))
        refine pk_le (ks_dot (ks_d c s) W c) m (fun z2 => nm_r (nI_1 s) (hskip (fun _ _ => z2) _ _ _)) (fun z2 => nm_r (nI_1 s) (ih (s + 1) _ _ _ _ (by omega) (by omega) ⟨Or.inr ⟨s, h, k1, rfl, z⟩, fun t ht => ?_⟩))
        by_cases e : t = s
        · subst e; exact fun _ _ => Nat.le_refl _
        · intro a b
          have := hF.2 t (by omega) a b
          omega
      · exact br_t rfl (nm_r (nI_1 s) (hskip (fun a => absurd ⟨a, h⟩ k) _ _ _))
theorem ks_fullest {post : Int32 → SY → Prop} (hc : c ≤ 7) (hL : L ≤ 60) (hG : ks_G c aw av au af W V S F)
    (hp : ∀ m hv wo tk, ks_Fu c W S L (3 ^ c) m → post (nI m) (nI c, nI L, hv, wo, aw, av, au, af, tk)) : wpY_fullest post (nI c, nI L, hv, wo, aw, av, au, af, tk) := by
  refine ks_end hc ⟨3 ^ c + 1, ?_⟩
  exact ks_ful9 hc hL hG hp (3 ^ c + 1) 0 0 _ _ _ (Nat.zero_le _) (Nat.lt_succ_of_le (Nat.sub_le _ _)) ⟨Or.inl rfl, fun s hs => absurd hs (Nat.not_lt_zero _)⟩
/-- x is the least weight among the choices with codes below n of value z at least; -1 if there is none -/
def ks_Li (c : Nat) (W V S : Nat → Nat) (z : Int) (n : Nat) (x : Int32) : Prop :=
  (x = -1 ∧ ∀ s, s < n → (∀ i, i < c → ks_d c s i ≤ S i) → ¬ z ≤ (ks_dot (ks_d c s) V c : Nat)) ∨
  (∃ m, m ≤ 280 ∧ x = nI m ∧ (∃ s, s < 3 ^ c ∧ (∀ i, i < c → ks_d c s i ≤ S i) ∧ z ≤ (ks_dot (ks_d c s) V c : Nat) ∧ ks_dot (ks_d c s) W c = m) ∧ ∀ s, s < n → (∀ i, i < c → ks_d c s i ≤ S i) → z ≤ (ks_dot (ks_d c s) V c : Nat) → m ≤ ks_dot (ks_d c s) W c)
theorem ks_Li_skip {z : Int} {n : Nat} {x : Int32} (h : ks_Li c W V S z n x) (hn : ¬ ((∀ i, i < c → ks_d c n i ≤ S i) ∧ z ≤ (ks_dot (ks_d c n) V c : Nat))) : ks_Li c W V S z (n + 1) x := by
  rcases h with ⟨a, b⟩ | ⟨m, h0, h1, h2, h3⟩
  · refine Or.inl ⟨a, fun s hs k => ?_⟩
    by_cases e : s = n
    · subst e; exact fun y => hn ⟨k, y⟩
    · exact b s (by omega) k
  · refine Or.inr ⟨m, h0, h1, h2, fun s hs k y => ?_⟩
    by_cases e : s = n
    · subst e; exact absurd ⟨k, y⟩ hn
    · exact h3 s (by omega) k y
theorem ks_lig10 {post : Int32 → SY → Prop} {x1 : Int32} (hc : c ≤ 7) (hG : ks_G c aw av au af W V S F)
    (hp : ∀ x hv wo tk, ks_Li c W V S x1.toInt (3 ^ c) x → post x (nI c, nI L, hv, wo, aw, av, au, af, tk)) :
    ∀ n s x hv wo tk, s ≤ 3 ^ c → 3 ^ c - s < n → ks_Li c W V S x1.toInt s x → wY_lightest_10 post x1 (nI (3 ^ c)) n x (nI s) (nI c) (nI L) hv wo aw av au af tk := by
  intro n
  have h3c := ks_3c hc
  induction n with
  | zero => intro s x hv wo tk _ h; exact absurd h (Nat.not_lt_zero _)
  | succ n ih =>
    intro s x hv wo tk h1 h2 hF
    refine pk_le (3 ^ c) s (fun h => ?_) (fun h => ?_)
    · have e : s = 3 ^ c := by omega
      subst e
      exact hp _ _ _ _ hF
    · have b1 := ks_wb (S := S) hc (fun i _ => ks_d_le c s i) (fun i hi => (hG i hi).2.2.2.2.2.1)
      have b3 := ks_vb hc (fun i _ => ks_d_le c s i) (fun i hi => (hG i hi).2.2.2.2.2.2.1)
      refine ks_choice hc hG (by omega) (fun k1 k2 tk k3 => ?_) (fun k hv wo tk => ?_)
      · have hlt : nI (ks_dot (ks_d c s) V c) < x1 ↔ ¬ x1.toInt ≤ (ks_dot (ks_d c s) V c : Nat) := by
          rw [Int32.lt_iff_toInt_lt, nI_toInt (by omega)]; omega
        refine br_f (by decide) (br_c (fun z => nm_r (nI_1 s) (ih (s + 1) x _ _ _ (by omega) (by omega) (ks_Li_skip hF (fun y => hlt.mp z y.2)))) (fun z => ?_))
        have hge : x1.toInt ≤ (ks_dot (ks_d c s) V c : Nat) := by
          rw [hlt] at z; omega
        rcases hF with ⟨rfl, b⟩ | ⟨m, h0, rfl, h3, h4⟩
        · refine br_t (by decide) (nm_r (nI_1 s) (ih (s + 1) _ _ _ _ (by omega) (by omega) (Or.inr ⟨_, b1, rfl, ⟨s, h, k1, hge, rfl⟩, fun t ht a y => ?_⟩)))
          by_cases e : t = s
          · subst e; exact Nat.le_refl _
          · exact absurd y (b t (by omega) a)
        · refine br_f (nI_pos (by omega)) (pk_le m (ks_dot (ks_d c s) W c) (fun y => nm_r (nI_1 s) (ih (s + 1) _ _ _ _ (by omega) (by omega) (Or.inr ⟨m, h0, rfl, h3, fun t ht a y2 => ?_⟩))) (fun y => nm_r (nI_1 s) (ih (s + 1) _ _ _ _ (by omega) (by omega) (Or.inr ⟨_, b1, rfl, ⟨s, h, k1, hge, rfl⟩, fun t ht a y2 => ?_⟩))))
          · by_cases e : t = s
            · subst e; exact y
            · exact h4 t (by omega) a y2
          · by_cases e : t = s
            · subst e; exact Nat.le_refl _
            · have := h4 t (by omega) a y2
              omega
      · exact br_t rfl (nm_r (nI_1 s) (ih (s + 1) x _ _ _ (by omega) (by omega) (ks_Li_skip hF (fun y => k ⟨y.1, h⟩))))
theorem ks_lightest {post : Int32 → SY → Prop} {x1 : Int32} (hc : c ≤ 7) (hG : ks_G c aw av au af W V S F)
    (hp : ∀ x hv wo tk, ks_Li c W V S x1.toInt (3 ^ c) x → post x (nI c, nI L, hv, wo, aw, av, au, af, tk)) : wpY_lightest post (nI c, nI L, hv, wo, aw, av, au, af, tk) x1 := by
  refine ks_end hc ⟨3 ^ c + 1, ?_⟩
  exact ks_lig10 hc hG hp (3 ^ c + 1) 0 (-1) _ _ _ (Nat.zero_le _) (Nat.lt_succ_of_le (Nat.sub_le _ _)) (Or.inl ⟨rfl, fun s hs => absurd hs (Nat.not_lt_zero _)⟩)
end
end
section
/-! X: the table over the families -/
def ks_As (c : Nat) (S F : Nat → Nat) (φ : Nat → Int) (f : Nat) (d : Nat → Nat) : Prop := (∀ i, i < c → d i ≤ S i) ∧ (∀ i, i < c → F i < f → d i = 0) ∧ (∀ i, i < c → f ≤ F i → φ i < 0 ∨ φ i = (d i : Int)) ∧ ks_St c F d
theorem ks_St_ne {c i j : Nat} {F d : Nat → Nat} (h : ks_St c F d) (hi : i < c) (hj : j < c) (hne : i ≠ j) (h1 : 0 < d i) (h2 : 0 < d j) : F i ≠ F j := by
  by_cases e : j < i
  · exact h i j hi e h1 h2
  · exact fun z => h j i hj (by omega) h2 h1 z.symm
/-- with pieces of k, k being the only good of its family f; p below P -/
def ks_Wp (c : Nat) (W V S F : Nat → Nat) (φ : Nat → Int) (f k w P v : Nat) : Prop := ∃ p, 1 ≤ p ∧ p < P ∧ (φ k < 0 ∨ φ k = (p : Int)) ∧ p * W k ≤ w ∧ ∃ v', ks_R c W V (ks_As c S F φ (f + 1)) (w - p * W k) v' ∧ v = v' + p * V k
theorem ks_Wp_in {c f k w v : Nat} {W V S F : Nat → Nat} {φ : Nat → Int} (hk : k < c) (hf : F k = f) (ho : ∀ i, i < c → F i = f → i ≠ k → φ i ≤ 0) (h : ks_Wp c W V S F φ f k w (S k + 1) v) : ks_R c W V (ks_As c S F φ f) w v := by
  obtain ⟨p, p1, p2, p3, p4, v', ⟨d, ⟨h1, h2, h3, h4⟩, hw, hv⟩, ev⟩ := h
  have z : d k = 0 := h2 k hk (by omega)
  have a := ks_dot_up (d := d) (W := W) (k := k) (p := p) c hk
  have b := ks_dot_up (d := d) (W := V) (k := k) (p := p) c hk
  rw [z, Nat.zero_mul, Nat.add_zero] at a b
  refine ⟨ks_up d k p, ⟨?_, ?_, ?_, ?_⟩, by omega, by omega⟩
  · intro i hi
    by_cases e : i = k
    · rw [e, ks_up_s]; omega
    · rw [ks_up_n e]; exact h1 i hi
  · intro i hi hF
    have e : i ≠ k := fun z => by subst z; omega
    rw [ks_up_n e]; exact h2 i hi (by omega)
  · intro i hi hF
    by_cases e : i = k
    · rw [e, ks_up_s]; exact p3
    · rw [ks_up_n e]
      by_cases e2 : F i = f
      · have y1 := h2 i hi (by omega)
        have y2 := ho i hi e2 e
        rw [y1]
        omega
      · exact h3 i hi (by omega)
  · intro i j hi hj
    by_cases e : i = k
    · subst e
      rw [ks_up_s, ks_up_n (show j ≠ i by omega)]
      intro _ y hF
      have := h2 j (by omega) (by omega)
      omega
    · rw [ks_up_n e]
      by_cases e2 : j = k
      · subst e2
        rw [ks_up_s]
        intro y _ hF
        have := h2 i hi (by omega)
        omega
      · rw [ks_up_n e2]
        exact h4 i j hi hj
theorem ks_Wp_out {c f k : Nat} {W V S F : Nat → Nat} {φ : Nat → Int} {d : Nat → Nat} (hk : k < c) (hf : F k = f) (h : ks_As c S F φ f d) (hd : 0 < d k) : ks_Wp c W V S F φ f k (ks_dot d W c) (S k + 1) (ks_dot d V c) := by
  obtain ⟨h1, h2, h3, h4⟩ := h
  have a := ks_dot_up (d := d) (W := W) (k := k) (p := 0) c hk
  have b := ks_dot_up (d := d) (W := V) (k := k) (p := 0) c hk
  rw [Nat.zero_mul, Nat.add_zero] at a b
  have y := h1 k hk
  refine ⟨d k, hd, by omega, h3 k hk (by omega), by omega, ks_dot (ks_up d k 0) V c, ⟨ks_up d k 0, ⟨?_, ?_, ?_, ?_⟩, by omega, rfl⟩, by omega⟩
  · intro i hi
    by_cases e : i = k
    · rw [e, ks_up_s]; omega
    · rw [ks_up_n e]; exact h1 i hi
  · intro i hi hF
    by_cases e : i = k
    · rw [e, ks_up_s]
    · rw [ks_up_n e]
      by_cases e2 : F i = f
      · by_cases e3 : 0 < d i
        · exact absurd (by omega) (ks_St_ne h4 hi hk e e3 hd)
        · omega
      · exact h2 i hi (by omega)
  · intro i hi hF
    have e : i ≠ k := fun z => by subst z; omega
    rw [ks_up_n e]
    exact h3 i hi (by omega)
  · intro i j hi hj
    by_cases e : i = k
    · subst e
      rw [ks_up_s]
      intro z; omega
    · rw [ks_up_n e]
      by_cases e2 : j = k
      · subst e2
        rw [ks_up_s]
        intro _ z; omega
      · rw [ks_up_n e2]
        exact h4 i j hi hj
theorem ks_As_0 {c f w : Nat} {W V S F : Nat → Nat} {φ : Nat → Int} (h0 : ∀ k, k < c → F k = f → φ k ≤ 0) (v : Nat) : (ks_R c W V (ks_As c S F φ (f + 1)) w v ∨ ∃ k, k < c ∧ F k = f ∧ ks_Wp c W V S F φ f k w (S k + 1) v) ↔ ks_R c W V (ks_As c S F φ f) w v := by
  constructor
  · rintro (⟨d, ⟨h1, h2, h3, h4⟩, hw, hv⟩ | ⟨k, hk, hf, h⟩)
    · refine ⟨d, ⟨h1, fun i hi hF => h2 i hi (by omega), fun i hi hF => ?_, h4⟩, hw, hv⟩
      by_cases e : F i = f
      · have y1 := h2 i hi (by omega)
        have y2 := h0 i hi e
        rw [y1]; omega
      · exact h3 i hi (by omega)
    · exact ks_Wp_in hk hf (fun i hi hF _ => h0 i hi hF) h
  · intro ⟨d, hA, hw, hv⟩
    by_cases e : ∃ k, k < c ∧ F k = f ∧ 0 < d k
    · obtain ⟨k, hk, hf, hd⟩ := e
      have := ks_Wp_out (W := W) (V := V) hk hf hA hd
      rw [hw, hv] at this
      exact Or.inr ⟨k, hk, hf, this⟩
    · obtain ⟨h1, h2, h3, h4⟩ := hA
      refine Or.inl ⟨d, ⟨h1, fun i hi hF => ?_, fun i hi hF => h3 i hi (by omega), h4⟩, hw, hv⟩
      by_cases e2 : F i = f
      · apply Nat.eq_zero_of_not_pos
        exact fun z => e ⟨i, hi, e2, z⟩
      · exact h2 i hi (by omega)
theorem ks_As_1 {c f w q : Nat} {W V S F : Nat → Nat} {φ : Nat → Int} (hq : q < c) (hf : F q = f) (hφ : 0 < φ q) (h1 : ∀ k, k < c → F k = f → 0 < φ k → k = q) (v : Nat) : ks_Wp c W V S F φ f q w (S q + 1) v ↔ ks_R c W V (ks_As c S F φ f) w v := by
  constructor
  · refine ks_Wp_in hq hf (fun i hi hF e => ?_)
    apply Int.not_lt.mp
    exact fun z => e (h1 i hi hF z)
  · intro ⟨d, hA, hw, hv⟩
    have hd : 0 < d q := by
      have := hA.2.2.1 q hq (by omega)
      omega
    have := ks_Wp_out (W := W) (V := V) hq hf hA hd
    rw [hw, hv] at this
    exact this
theorem ks_As_2 {c f w i j : Nat} {W V S F : Nat → Nat} {φ : Nat → Int} (hi : i < c) (hj : j < c) (hne : i ≠ j) (fi : F i = f) (fj : F j = f) (pi : 0 < φ i) (pj : 0 < φ j) (v : Nat) : ¬ ks_R c W V (ks_As c S F φ f) w v := by
  intro ⟨d, ⟨h1, h2, h3, h4⟩, hw, hv⟩
  have a := h3 i hi (by omega)
  have b := h3 j hj (by omega)
  exact ks_St_ne h4 hi hj hne (by omega) (by omega) (by omega)
def ks_SC (c : Nat) (W V S F : Nat → Nat) (fx st : Nat → Int32) (f w : Nat) : Prop := ks_Top (ks_R c W V (ks_As c S F (fun i => (fx i).toInt) f) w) (st (281 * f + w)).toInt
section
variable {c L : Nat} {aw av au af tb wy st fx pr : Nat → Int32} {W V S F : Nat → Nat}
theorem ks_wg43 {post : Int32 → Prop} {J : Int32 → Int32 → Prop} {f k w p : Nat} {b : Int32} (hf : f ≤ 3) (hk : k < c) (hc : c ≤ 7) (hw : w ≤ 280) (hp : 1 ≤ p) (hp2 : p ≤ 2) (hG : ks_G c aw av au af W V S F)
    (hcan : (fx k).toInt < 0 ∨ (fx k).toInt = (p : Int))
    (hrow : ∀ w, w ≤ 280 → ks_SC c W V S F fx st (f + 1) w)
    (hT : ks_Top (ks_Wp c W V S F (fun i => (fx i).toInt) f k w p) b.toInt)
    (hJ : ∀ b' : Int32, ks_Top (ks_Wp c W V S F (fun i => (fx i).toInt) f k w (p + 1)) b'.toInt → J b' (nI (p + 1))) :
    wX_withGood_43 post J (nI f) (nI k) (nI w) b (nI p) 1 (nI c) (nI L) aw av au af tb wy st fx pr := by
  obtain ⟨g1, g2, g3, g4, g5, g6, g7, g8, g9, g10⟩ := hG k hk
  have hV : ∀ i, i < c → V i ≤ 50 := fun i hi => (hG i hi).2.2.2.2.2.2.1
  have hS : ∀ i, i < c → S i ≤ 2 := fun i hi => (hG i hi).2.2.2.2.2.2.2.2.1
  have hpw : p * W k ≤ 2 * 20 := Nat.mul_le_mul hp2 g6
  have hpv : p * V k ≤ 2 * 50 := Nat.mul_le_mul hp2 g7
  have hstep : ∀ v, (ks_Wp c W V S F (fun i => (fx i).toInt) f k w p v ∨ (p * W k ≤ w ∧ ∃ v', ks_R c W V (ks_As c S F (fun i => (fx i).toInt) (f + 1)) (w - p * W k) v' ∧ v = v' + p * V k)) ↔ ks_Wp c W V S F (fun i => (fx i).toInt) f k w (p + 1) v := by
    intro v
    constructor
    · rintro (⟨q, q1, q2, h⟩ | h)
      · exact ⟨q, q1, by omega, h⟩
      · exact ⟨p, hp, by omega, hcan, h.1, h.2⟩
    · intro ⟨q, q1, q2, h⟩
      by_cases e : q = p
      · subst e; exact Or.inr h.2
      · exact Or.inl ⟨q, q1, by omega, h⟩
  unfold wX_withGood_43
  rw [nI_clamp (show k < 2 ^ 31 by omega), g1, g2, pk_mul p (W k), pk_mul p (V k)]
  refine ⟨vp_in_nI (by omega) (by decide), nm_e (br_f (by decide) ?_)⟩
  by_cases h2 : p * W k ≤ w
  · have e7 : nI w - nI (p * W k) = nI (w - p * W k) := pk_sub h2
    have ej : (281 : Int32) * (nI f + 1) + nI (w - p * W k) = nI (281 * (f + 1) + (w - p * W k)) := by rw [nI_1, ks_m281, nI_add]
    rw [e7, ej, nI_clamp (show 281 * (f + 1) + (w - p * W k) < 2 ^ 31 by omega)]
    have hT2 := hrow (w - p * W k) (by omega)
    have hd := ks_Top_dom 700 hT2 (fun v hv => ks_Rb hc (fun d hd i hi => Nat.le_trans (hd.1 i hi) (hS i hi)) hV hv)
    have hz : (nI (p * V k)).toInt = ((p * V k : Nat) : Int) := nI_toInt (by omega)
    have hadd : (st (281 * (f + 1) + (w - p * W k)) + nI (p * V k)).toInt = (st (281 * (f + 1) + (w - p * W k))).toInt + ((p * V k : Nat) : Int) := by
      rw [Jvm.Kit.i32_add (by rw [hz]; omega) (by rw [hz]; omega), hz]
    have hst2 : ∀ v, (ks_Wp c W V S F (fun i => (fx i).toInt) f k w p v ∨ ∃ v', ks_R c W V (ks_As c S F (fun i => (fx i).toInt) (f + 1)) (w - p * W k) v' ∧ v = v' + p * V k) ↔ ks_Wp c W V S F (fun i => (fx i).toInt) f k w (p + 1) v := by
      intro v
      rw [← hstep v]
      exact ⟨fun h => h.elim Or.inl (fun y => Or.inr ⟨h2, y⟩), fun h => h.elim Or.inl (fun y => Or.inr y.2)⟩
    refine br_f (nI_pos (by omega)) ⟨vp_in_nI (by omega) (by decide), br_c (fun hneg => nm_r (nI_1 p) (hJ b ?_)) (fun hpos => ⟨vp_in_nI (by omega) (by decide), vp_in_nI (by omega) (by decide), nm_e (br_c (fun hle => nm_r (nI_1 p) (hJ b ?_)) (fun hgt => nm_r (nI_1 p) (hJ _ ?_)))⟩)⟩
    · refine ks_Top_congr hst2 (ks_Top_or_le hT (ks_Top_none ?_) (ks_Top_lo hT))
      intro v hv
      obtain ⟨v', hv', _⟩ := hv
      exact ks_Top_neg hT2 (ks_lt0.mp hneg) v' hv'
    · rw [ks_lt0] at hpos
      rw [Int32.le_iff_toInt_le, hadd] at hle
      exact ks_Top_congr hst2 (ks_Top_or_le hT (ks_Top_sh (p * V k) hT2 (by omega)) hle)
    · rw [ks_lt0] at hpos
      rw [Int32.le_iff_toInt_le, hadd] at hgt
      rw [hadd]
      exact ks_Top_congr hst2 (ks_Top_or_gt hT (ks_Top_sh (p * V k) hT2 (by omega)) (by omega))
  · refine br_t (pk_sneg (by omega) (by omega)) (nm_r (nI_1 p) (hJ b ?_))
    exact ks_Top_congr hstep (ks_Top_or_le hT (ks_Top_none (fun v hv => h2 hv.1)) (ks_Top_lo hT))
theorem ks_wg7 {post : Int32 → Prop} {f k w : Nat} (hf : f ≤ 3) (hk : k < c) (hc : c ≤ 7) (hw : w ≤ 280) (hG : ks_G c aw av au af W V S F)
    (hrow : ∀ w, w ≤ 280 → ks_SC c W V S F fx st (f + 1) w)
    (hp : ∀ t : Int32, ks_Top (ks_Wp c W V S F (fun i => (fx i).toInt) f k w (S k + 1)) t.toInt → post t) :
    ∀ n p (b : Int32), 1 ≤ p → p ≤ S k + 1 → S k + 1 - p < n → ks_Top (ks_Wp c W V S F (fun i => (fx i).toInt) f k w p) b.toInt → wX_withGood_7 post (nI f) (nI k) (nI w) (nI c) (nI L) aw av au af tb wy st fx pr n b (nI p) := by
  intro n
  induction n with
  | zero => intro p b _ _ h; exact absurd h (Nat.not_lt_zero _)
  | succ n ih =>
    intro p b h1 h2 h3 hT
    obtain ⟨g1, g2, g3, g4, g5, g6, g7, g8, g9, g10⟩ := hG k hk
    have ek : (nI k).toNatClampNeg = k := nI_clamp (by omega)
    refine ⟨vp_in_nI (by omega) (by decide), ?_⟩
    rw [ek, g3]
    refine pk_lt (S k) p (fun h => ?_) (fun h => ⟨vp_in_nI (by omega) (by decide), ?_⟩)
    · have e : p = S k + 1 := by omega
      subst e
      exact hp b hT
    · have h38 : ((fx k).toInt < 0 ∨ (fx k).toInt = (p : Int)) → wX_withGood_38 post (wX_withGood_7 post (nI f) (nI k) (nI w) (nI c) (nI L) aw av au af tb wy st fx pr n) (nI f) (nI k) (nI w) b (nI p) (nI c) (nI L) aw av au af tb wy st fx pr :=
        fun hcan => ks_wg43 hf hk hc hw h1 (by omega) hG hcan hrow hT (fun b' hb' => ih (p + 1) b' (by omega) (by omega) (by omega) hb')
      refine br_c (fun z => h38 (Or.inl (ks_lt0.mp z))) (fun z => ⟨vp_in_nI (by omega) (by decide), br_c (fun z2 => h38 (Or.inr ?_)) (fun z2 => ?_)⟩)
      · rw [z2, nI_toInt (by omega)]
      · unfold wX_withGood_43
        refine ⟨vp_in_nI (by omega) (by decide), nm_e (br_t rfl (nm_r (nI_1 p) (ih (p + 1) b (by omega) (by omega) (by omega) ?_)))⟩
        refine ks_Top_congr (fun v => ?_) hT
        constructor
        · intro ⟨q, q1, q2, y⟩
          exact ⟨q, q1, by omega, y⟩
        · intro ⟨q, q1, q2, q3, y⟩
          refine ⟨q, q1, ?_, q3, y⟩
          have : q ≠ p := by
            intro e
            subst e
            rcases q3 with q3 | q3
            · exact z (ks_lt0.mpr q3)
            · exact z2 (Int32.toInt_inj.mp (by rw [nI_toInt (by omega)]; exact q3))
          omega
theorem ks_withGood {post : Int32 → Prop} {f k w : Nat} (hf : f ≤ 3) (hk : k < c) (hc : c ≤ 7) (hw : w ≤ 280) (hG : ks_G c aw av au af W V S F)
    (hrow : ∀ w, w ≤ 280 → ks_SC c W V S F fx st (f + 1) w)
    (hp : ∀ t : Int32, ks_Top (ks_Wp c W V S F (fun i => (fx i).toInt) f k w (S k + 1)) t.toInt → post t) : wpX_withGood post (nI c, nI L, aw, av, au, af, tb, wy, st, fx, pr) (nI f) (nI k) (nI w) := by
  refine ⟨S k + 1, ?_⟩
  refine ks_wg7 hf hk hc hw hG hrow hp (S k + 1) 1 (-100000) (by omega) (by omega) (by have := (hG k hk).2.2.2.2.2.2.2.1; omega) ?_
  rw [ks_none]
  refine ks_Top_none (fun v hv => ?_)
  obtain ⟨q, q1, q2, _⟩ := hv
  omega
theorem ks_se87 {post : Int32 → Prop} {f w : Nat} {x3 x4 : Int32} {P : Nat → Prop} (hf : f ≤ 3) (hc : c ≤ 7) (hw : w ≤ 280) (hG : ks_G c aw av au af W V S F)
    (hrow : ∀ w, w ≤ 280 → ks_SC c W V S F fx st (f + 1) w)
    (hp : ∀ t : Int32, ks_Top (fun v => P v ∨ ∃ i, i < c ∧ (F i = f ∧ (x3 = 0 ∨ nI i = x4)) ∧ ks_Wp c W V S F (fun i => (fx i).toInt) f i w (S i + 1) v) t.toInt → post t) :
    ∀ n k (b : Int32), k ≤ c → c - k < n → ks_Top (fun v => P v ∨ ∃ i, i < k ∧ (F i = f ∧ (x3 = 0 ∨ nI i = x4)) ∧ ks_Wp c W V S F (fun i => (fx i).toInt) f i w (S i + 1) v) b.toInt → wX_strictEntry_87 post (nI f) (nI w) x3 x4 (nI c) (nI L) aw av au af tb wy st fx pr n b (nI k) := by
  intro n
  induction n with
  | zero => intro k b _ h; exact absurd h (Nat.not_lt_zero _)
  | succ n ih =>
    intro k b h1 h2 hT
    refine pk_le c k (fun h => ?_) (fun h => ⟨vp_in_nI (by omega) (by decide), ?_⟩)
    · have e : k = c := by omega
      subst e
      exact hp b hT
    · have g4 := (hG k h).2.2.2.1
      have g10 := (hG k h).2.2.2.2.2.2.2.2.2
      rw [nI_clamp (show k < 2 ^ 31 by omega), g4]
      have hskip : ¬ (F k = f ∧ (x3 = 0 ∨ nI k = x4)) → wX_strictEntry_87 post (nI f) (nI w) x3 x4 (nI c) (nI L) aw av au af tb wy st fx pr n b (nI (k + 1)) := by
        intro z
        refine ih (k + 1) b (by omega) (by omega) (ks_Top_congr (fun v => ?_) hT)
        constructor
        · rintro (y | ⟨i, i1, i2⟩)
          · exact Or.inl y
          · exact Or.inr ⟨i, by omega, i2⟩
        · rintro (y | ⟨i, i1, i2, i3⟩)
          · exact Or.inl y
          · refine Or.inr ⟨i, ?_, i2, i3⟩
            have : i ≠ k := fun e => z (e ▸ i2)
            omega
      have h118 : (F k = f ∧ (x3 = 0 ∨ nI k = x4)) → wX_strictEntry_118 post (wX_strictEntry_87 post (nI f) (nI w) x3 x4 (nI c) (nI L) aw av au af tb wy st fx pr n) (nI f) (nI w) x3 x4 b (nI k) (nI c) (nI L) aw av au af tb wy st fx pr := by
        intro z
        refine ks_withGood hf h hc hw hG hrow (fun t ht => ?_)
        have hcg : ∀ v, ((P v ∨ ∃ i, i < k ∧ (F i = f ∧ (x3 = 0 ∨ nI i = x4)) ∧ ks_Wp c W V S F (fun i => (fx i).toInt) f i w (S i + 1) v) ∨ ks_Wp c W V S F (fun i => (fx i).toInt) f k w (S k + 1) v) ↔ (P v ∨ ∃ i, i < k + 1 ∧ (F i = f ∧ (x3 = 0 ∨ nI i = x4)) ∧ ks_Wp c W V S F (fun i => (fx i).toInt) f i w (S i + 1) v) := by
          intro v
          constructor
          · rintro ((y | ⟨i, i1, i2⟩) | y)
            · exact Or.inl y
            · exact Or.inr ⟨i, by omega, i2⟩
            · exact Or.inr ⟨k, by omega, z, y⟩
          · rintro (y | ⟨i, i1, i2, i3⟩)
            · exact Or.inl (Or.inl y)
            · by_cases e : i = k
              · subst e; exact Or.inr i3
              · exact Or.inl (Or.inr ⟨i, by omega, i2, i3⟩)
        refine br_c (fun hle => nm_r (nI_1 k) (ih (k + 1) b (by omega) (by omega) ?_)) (fun hgt => nm_r (nI_1 k) (ih (k + 1) t (by omega) (by omega) ?_))
        · rw [Int32.le_iff_toInt_le] at hle
          exact ks_Top_congr hcg (ks_Top_or_le hT ht hle)
        · rw [Int32.le_iff_toInt_le] at hgt
          exact ks_Top_congr hcg (ks_Top_or_gt hT ht (by omega))
      refine pk_eq (F k) f (fun e => br_c (fun e3 => h118 ⟨e, Or.inl e3⟩) (fun e3 => br_c (fun e4 => h118 ⟨e, Or.inr e4⟩) (fun e4 => nm_r (nI_1 k) (hskip (fun y => y.2.elim e3 e4))))) (fun e => nm_r (nI_1 k) (hskip (fun y => e y.1)))
/-- what is known of forced goods below k -/
def ks_Fo (F : Nat → Nat) (φ : Nat → Int) (f k n : Nat) (x4 : Int32) : Prop :=
  (n = 0 ∧ ∀ i, i < k → F i = f → φ i ≤ 0) ∨ (n = 1 ∧ ∃ q, q < k ∧ x4 = nI q ∧ F q = f ∧ 0 < φ q ∧ ∀ i, i < k → F i = f → 0 < φ i → i = q) ∨ (2 ≤ n ∧ n ≤ k ∧ ∃ i j, i < k ∧ j < k ∧ i ≠ j ∧ F i = f ∧ F j = f ∧ 0 < φ i ∧ 0 < φ j)
theorem ks_Fo_no {φ : Nat → Int} {f k n : Nat} {x4 : Int32} (h : ks_Fo F φ f k n x4) (hk : ¬ (F k = f ∧ 0 < φ k)) : ks_Fo F φ f (k + 1) n x4 := by
  rcases h with ⟨a, b⟩ | ⟨a, q, q1, q2, q3, q4, q5⟩ | ⟨a, b, i, j, i1, j1, h⟩
  · refine Or.inl ⟨a, fun i hi hF => ?_⟩
    by_cases e : i = k
    · subst e
      apply Int.not_lt.mp
      exact fun z => hk ⟨hF, z⟩
    · exact b i (by omega) hF
  · refine Or.inr (Or.inl ⟨a, q, by omega, q2, q3, q4, fun i hi hF hφ => ?_⟩)
    by_cases e : i = k
    · subst e; exact absurd ⟨hF, hφ⟩ hk
    · exact q5 i (by omega) hF hφ
  · exact Or.inr (Or.inr ⟨a, by omega, i, j, by omega, by omega, h⟩)
theorem ks_Fo_yes {φ : Nat → Int} {f k n : Nat} {x4 : Int32} (h : ks_Fo F φ f k n x4) (hF : F k = f) (hφ : 0 < φ k) : ks_Fo F φ f (k + 1) (n + 1) (nI k) := by
  rcases h with ⟨a, b⟩ | ⟨a, q, q1, q2, q3, q4, q5⟩ | ⟨a, b, i, j, i1, j1, h⟩
  · refine Or.inr (Or.inl ⟨by omega, k, by omega, rfl, hF, hφ, fun i hi hF' hφ' => ?_⟩)
    by_cases e : i = k
    · exact e
    · have := b i (by omega) hF'
      omega
  · exact Or.inr (Or.inr ⟨by omega, by omega, q, k, by omega, by omega, by omega, q3, hF, q4, hφ⟩)
  · exact Or.inr (Or.inr ⟨by omega, by omega, i, j, by omega, by omega, h⟩)
theorem ks_se8 {post : Int32 → Prop} {f w : Nat} (hf : f ≤ 3) (hc : c ≤ 7) (hw : w ≤ 280) (hG : ks_G c aw av au af W V S F)
    (hrow : ∀ w, w ≤ 280 → ks_SC c W V S F fx st (f + 1) w)
    (hp : ∀ t : Int32, ks_Top (ks_R c W V (ks_As c S F (fun i => (fx i).toInt) f) w) t.toInt → post t) :
    ∀ n k m (x4 : Int32), k ≤ c → c - k < n → ks_Fo F (fun i => (fx i).toInt) f k m x4 → wX_strictEntry_8 post (nI f) (nI w) (nI c) (nI L) aw av au af tb wy st fx pr n (nI m) x4 (nI k) := by
  intro n
  induction n with
  | zero => intro k m x4 _ h; exact absurd h (Nat.not_lt_zero _)
  | succ n ih =>
    intro k m x4 h1 h2 hF
    refine pk_le c k (fun h => ?_) (fun h => ⟨vp_in_nI (by omega) (by decide), ?_⟩)
    · have e : k = c := by omega
      subst e
      rcases hF with ⟨a, b⟩ | ⟨a, q, q1, q2, q3, q4, q5⟩ | ⟨a, b, i, j, i1, j1, hne, fi, fj, pi, pj⟩
      · subst a
        have ej : (281 : Int32) * (nI f + 1) + nI w = nI (281 * (f + 1) + w) := by rw [nI_1, ks_m281, nI_add]
        refine br_t (by decide) (br_t rfl ?_)
        rw [ej, nI_clamp (show 281 * (f + 1) + w < 2 ^ 31 by omega)]
        refine ⟨vp_in_nI (by omega) (by decide), nm_e ⟨k + 1, ?_⟩⟩
        refine ks_se87 (P := fun v => ks_R k W V (ks_As k S F (fun i => (fx i).toInt) (f + 1)) w v) hf hc hw hG hrow (fun t ht => hp t (ks_Top_congr (fun v => ?_) ht)) (k + 1) 0 _ (by omega) (by omega) (ks_Top_congr (fun v => ?_) (hrow w hw))
        · rw [← ks_As_0 b v]
          constructor
          · rintro (y | ⟨i, i1, i2, i3⟩)
            · exact Or.inl y
            · exact Or.inr ⟨i, i1, i2.1, i3⟩
          · rintro (y | ⟨i, i1, i2, i3⟩)
            · exact Or.inl y
            · exact Or.inr ⟨i, i1, ⟨i2, Or.inl rfl⟩, i3⟩
        · constructor
          · exact Or.inl
          · rintro (y | ⟨i, i1, _⟩)
            · exact y
            · exact absurd i1 (Nat.not_lt_zero _)
      · subst a
        refine br_t (by decide) (br_f (by decide) ⟨k + 1, ?_⟩)
        refine ks_se87 (P := fun v => False) hf hc hw hG hrow (fun t ht => hp t (ks_Top_congr (fun v => ?_) ht)) (k + 1) 0 _ (by omega) (by omega) ?_
        · rw [← ks_As_1 q1 q3 q4 q5 v]
          constructor
          · rintro (y | ⟨i, i1, ⟨i2, i4⟩, i3⟩)
            · exact absurd y id
            · rcases i4 with i4 | i4
              · exact absurd i4 (by decide)
              · rw [q2, nI_eq (by omega) (by omega)] at i4
                subst i4; exact i3
          · intro y
            exact Or.inr ⟨q, q1, ⟨q3, Or.inr q2.symm⟩, y⟩
        · rw [ks_none]
          refine ks_Top_none ?_
          rintro v (y | ⟨i, i1, _⟩)
          · exact y
          · exact absurd i1 (Nat.not_lt_zero _)
      · refine pk_le m 1 (fun z => absurd z (by omega)) (fun _ => hp _ ?_)
        rw [ks_none]
        exact ks_Top_none (ks_As_2 i1 j1 hne fi fj pi pj)
    · have g4 := (hG k h).2.2.2.1
      have g10 := (hG k h).2.2.2.2.2.2.2.2.2
      rw [nI_clamp (show k < 2 ^ 31 by omega), g4]
      refine pk_eq (F k) f (fun e => ⟨vp_in_nI (by omega) (by decide), br_c (fun z => nm_r (nI_1 k) (ih (k + 1) m x4 (by omega) (by omega) (ks_Fo_no hF (fun y => ?_)))) (fun z => nm_r (nI_1 m) (nm_r (nI_1 k) (ih (k + 1) (m + 1) (nI k) (by omega) (by omega) (ks_Fo_yes hF e ?_))))⟩) (fun e => nm_r (nI_1 k) (ih (k + 1) m x4 (by omega) (by omega) (ks_Fo_no hF (fun y => e y.1))))
      · rw [Int32.le_iff_toInt_le, ks_z] at z
        have : 0 < (fx k).toInt := y.2
        omega
      · rw [Int32.le_iff_toInt_le, ks_z] at z
        show 0 < (fx k).toInt
        omega
theorem ks_strictEntry {post : Int32 → Prop} {f w : Nat} (hf : f ≤ 3) (hc : c ≤ 7) (hw : w ≤ 280) (hG : ks_G c aw av au af W V S F)
    (hrow : ∀ w, w ≤ 280 → ks_SC c W V S F fx st (f + 1) w)
    (hp : ∀ t : Int32, ks_Top (ks_R c W V (ks_As c S F (fun i => (fx i).toInt) f) w) t.toInt → post t) : wpX_strictEntry post (nI c, nI L, aw, av, au, af, tb, wy, st, fx, pr) (nI f) (nI w) :=
  ⟨c + 1, ks_se8 hf hc hw hG hrow hp (c + 1) 0 0 (-1) (by omega) (by omega) (Or.inl ⟨rfl, fun i hi => absurd hi (Nat.not_lt_zero _)⟩)⟩
def ks_SI (c : Nat) (W V S F : Nat → Nat) (fx st : Nat → Int32) (f w : Nat) : Prop := ∀ f' w', f' ≤ 4 → w' ≤ 280 → (f < f' ∨ (f' = f ∧ w' < w)) → ks_SC c W V S F fx st f' w'
theorem ks_SI_s {f w : Nat} {t : Int32} (hw : w ≤ 280) (h : ks_SI c W V S F fx st f w) (ht : ks_Top (ks_R c W V (ks_As c S F (fun i => (fx i).toInt) f) w) t.toInt) : ks_SI c W V S F fx (upd st (281 * f + w) t) f (w + 1) := by
  intro k' w' h1 h2 h3
  by_cases e : k' = f ∧ w' = w
  · obtain ⟨e1, e2⟩ := e
    subst e1 e2
    unfold ks_SC
    rw [pk_us]
    exact ht
  · have hne : 281 * k' + w' ≠ 281 * f + w := by omega
    unfold ks_SC
    rw [pk_un hne]
    exact h k' w' h1 h2 (by omega)
theorem ks_fs43 {post : SX → Prop} {J : Int32 → (Nat → Int32) → (Nat → Int32) → (Nat → Int32) → (Nat → Int32) → (Nat → Int32) → (Nat → Int32) → (Nat → Int32) → (Nat → Int32) → (Nat → Int32) → Prop} {f : Nat} (hf : f ≤ 3) (hc : c ≤ 7) (hG : ks_G c aw av au af W V S F)
    (hJ : ∀ st, ks_SI c W V S F fx st f 281 → J (nI f + (-1)) aw av au af tb wy st fx pr) :
    ∀ n w st, w ≤ 281 → 281 - w < n → ks_SI c W V S F fx st f w → wX_fillStrict_43 post J (nI f) (nI c) (nI L) n (nI w) aw av au af tb wy st fx pr := by
  intro n
  induction n with
  | zero => intro w st _ h; exact absurd h (Nat.not_lt_zero _)
  | succ n ih =>
    intro w st h1 h2 hI
    refine pk_lt 280 w (fun h => nm_e ?_) (fun h => ?_)
    · have e : w = 281 := by omega
      subst e
      exact hJ st hI
    · refine ks_strictEntry hf hc h hG (fun w hw => hI (f + 1) w (by omega) hw (Or.inl (by omega))) (fun t ht => ?_)
      have ej : (281 : Int32) * nI f + nI w = nI (281 * f + w) := by rw [ks_m281, nI_add]
      rw [ej, nI_clamp (show 281 * f + w < 2 ^ 31 by omega)]
      exact ⟨vp_in_nI (by omega) (by decide), nm_e (nm_r (nI_1 w) (ih (w + 1) _ (by omega) (by omega) (ks_SI_s h hI ht)))⟩
theorem ks_fs37 {post : SX → Prop} (hc : c ≤ 7) (hG : ks_G c aw av au af W V S F)
    (hp : ∀ st, (∀ f w, f ≤ 4 → w ≤ 280 → ks_SC c W V S F fx st f w) → post (nI c, nI L, aw, av, au, af, tb, wy, st, fx, pr)) :
    ∀ f n st, f ≤ 4 → f < n → ks_SI c W V S F fx st f 281 → wX_fillStrict_37 post (nI c) (nI L) n (nI f + (-1)) aw av au af tb wy st fx pr := by
  intro f
  induction f with
  | zero =>
    intro n st _ hn hI
    obtain ⟨n, rfl⟩ : ∃ m, n = m + 1 := ⟨n - 1, by omega⟩
    refine br_t ks_neg1 (hp st (fun k w h1 h2 => hI k w h1 h2 ?_))
    omega
  | succ f ih =>
    intro n st hf hn hI
    obtain ⟨n, rfl⟩ : ∃ m, n = m + 1 := ⟨n - 1, by omega⟩
    rw [pk_m1]
    refine br_f (nI_pos (by omega)) ⟨282, ks_fs43 (by omega) hc hG (fun st h => ih n st (by omega) (by omega) h) 282 0 st (by omega) (by omega) ?_⟩
    intro f' w' h1 h2 h3
    exact hI f' w' h1 h2 (by omega)
theorem ks_sc4 {w : Nat} (t : Int32) (hF : ∀ i, i < c → F i ≤ 3) (hw : w ≤ 280) (ht : t = if w = 0 then 0 else -100000) (h : ∀ w', w' < w → ks_SC c W V S F fx st 4 w') : ∀ w', w' < w + 1 → ks_SC c W V S F fx (upd st (1124 + w) t) 4 w' := by
  intro w' h1
  have hR : ∀ w v, ks_R c W V (ks_As c S F (fun i => (fx i).toInt) 4) w v ↔ w = 0 ∧ v = 0 := by
    intro w v
    constructor
    · intro ⟨d, ⟨_, h2, _⟩, hw, hv⟩
      have z : ∀ i, i < c → d i = 0 := fun i hi => h2 i hi (by have := hF i hi; omega)
      rw [ks_dot_zero c z] at hw hv
      exact ⟨hw.symm, hv.symm⟩
    · intro ⟨hw, hv⟩
      exact ⟨fun _ => 0, ⟨fun _ _ => Nat.zero_le _, fun _ _ _ => rfl, fun i hi y => absurd y (by have := hF i hi; omega), fun i j _ _ y => absurd y (Nat.lt_irrefl _)⟩, by rw [hw]; exact ks_dot_zero c (fun _ _ => rfl), by rw [hv]; exact ks_dot_zero c (fun _ _ => rfl)⟩
  by_cases e : w' = w
  · subst e
    unfold ks_SC
    rw [show 281 * 4 + w' = 1124 + w' by omega, pk_us, ht]
    by_cases z : w' = 0
    · subst z
      rw [if_pos rfl, ks_z]
      exact Or.inr ⟨0, rfl, (hR 0 0).mpr ⟨rfl, rfl⟩, fun v hv => by rw [((hR 0 v).mp hv).2]; exact Nat.le_refl 0⟩
    · rw [if_neg z, ks_none]
      exact ks_Top_none (fun v hv => z ((hR w' v).mp hv).1)
  · have hne : 281 * 4 + w' ≠ 1124 + w := by omega
    unfold ks_SC
    rw [pk_un hne]
    exact h w' (by omega)
theorem ks_fs2 {post : SX → Prop} (hc : c ≤ 7) (hG : ks_G c aw av au af W V S F)
    (hp : ∀ st, (∀ f w, f ≤ 4 → w ≤ 280 → ks_SC c W V S F fx st f w) → post (nI c, nI L, aw, av, au, af, tb, wy, st, fx, pr)) :
    ∀ n w st, w ≤ 281 → 281 - w < n → (∀ w', w' < w → ks_SC c W V S F fx st 4 w') → wX_fillStrict_2 post (nI c) (nI L) n (nI w) aw av au af tb wy st fx pr := by
  have hF : ∀ i, i < c → F i ≤ 3 := fun i hi => (hG i hi).2.2.2.2.2.2.2.2.2
  intro n
  induction n with
  | zero => intro w st _ h; exact absurd h (Nat.not_lt_zero _)
  | succ n ih =>
    intro w st h1 h2 hI
    have ej : (1124 : Int32) + nI w = nI (1124 + w) := nI_add 1124 w
    refine pk_lt 280 w (fun h => ⟨5, ?_⟩) (fun h => ?_)
    · refine ks_fs37 hc hG hp 4 5 st (by omega) (by omega) ?_
      intro f' w' h3 h4 h5
      have e : f' = 4 := by omega
      subst e
      exact hI w' (by omega)
    · rw [ej, nI_clamp (show 1124 + w < 2 ^ 31 by omega)]
      refine pk_eq w 0 (fun hz => ⟨vp_in_nI (by omega) (by decide), nm_e (nm_r (nI_1 w) ?_)⟩) (fun hz => ⟨vp_in_nI (by omega) (by decide), nm_e (nm_r (nI_1 w) ?_)⟩)
      · exact ih (w + 1) _ (by omega) (by omega) (ks_sc4 0 hF h (if_pos hz).symm hI)
      · exact ih (w + 1) _ (by omega) (by omega) (ks_sc4 (-100000) hF h (if_neg hz).symm hI)
theorem ks_fillStrict {post : SX → Prop} (hc : c ≤ 7) (hG : ks_G c aw av au af W V S F)
    (hp : ∀ st, (∀ f w, f ≤ 4 → w ≤ 280 → ks_SC c W V S F fx st f w) → post (nI c, nI L, aw, av, au, af, tb, wy, st, fx, pr)) : wpX_fillStrict post (nI c, nI L, aw, av, au, af, tb, wy, st, fx, pr) :=
  ⟨282, ks_fs2 hc hG hp 282 0 st (by omega) (by omega) (fun w' h => absurd h (Nat.not_lt_zero _))⟩
theorem ks_oa2 {post : SX → Prop} (hp : ∀ fx, (∀ i, i < 7 → fx i = -1) → post (nI c, nI L, aw, av, au, af, tb, wy, st, fx, pr)) :
    ∀ n i fx, i ≤ 7 → 7 - i < n → (∀ j, j < i → fx j = -1) → wX_openAll_2 post (nI c) (nI L) n (nI i) aw av au af tb wy st fx pr := by
  intro n
  induction n with
  | zero => intro i fx _ h; exact absurd h (Nat.not_lt_zero _)
  | succ n ih =>
    intro i fx h1 h2 hI
    refine pk_le 7 i (fun h => hp fx (fun j hj => hI j (by omega))) (fun h => ⟨vp_in_nI (by omega) (by decide), nm_e (nm_r (nI_1 i) (ih (i + 1) _ (by omega) (by omega) ?_))⟩)
    intro j hj
    rw [nI_clamp (by omega)]
    by_cases e : j = i
    · subst e; exact pk_us
    · rw [pk_un e]; exact hI j (by omega)
theorem ks_openAll {post : SX → Prop} (hp : ∀ fx, (∀ i, i < 7 → fx i = -1) → post (nI c, nI L, aw, av, au, af, tb, wy, st, fx, pr)) : wpX_openAll post (nI c, nI L, aw, av, au, af, tb, wy, st, fx, pr) :=
  ⟨8, ks_oa2 hp 8 0 fx (by omega) (by omega) (fun j hj => absurd hj (Nat.not_lt_zero _))⟩
end
end
section
/-! two choices at once -/
theorem ks_dot_add (x y V : Nat → Nat) : ∀ n, ks_dot (fun i => x i + y i) V n = ks_dot x V n + ks_dot y V n
  | 0 => rfl
  | n + 1 => by
    rw [ks_dot_s, ks_dot_s, ks_dot_s, ks_dot_add x y V n, Nat.add_mul]
    omega
def ks_R2 (c : Nat) (W V C : Nat → Nat) (a b v : Nat) : Prop := ∃ x y, (∀ i, i < c → x i + y i ≤ C i) ∧ ks_dot x W c ≤ a ∧ ks_dot y W c ≤ b ∧ ks_dot x V c + ks_dot y V c = v
def ks_Mx (P : Nat → Prop) (m : Nat) : Prop := P m ∧ ∀ v, P v → v ≤ m
theorem ks_Mx_uniq {P : Nat → Prop} {m n : Nat} (h : ks_Mx P m) (k : ks_Mx P n) : m = n := by
  have a := h.2 n k.1
  have b := k.2 m h.1
  omega
theorem ks_Mx_congr {P Q : Nat → Prop} {m : Nat} (h : ∀ v, P v ↔ Q v) (H : ks_Mx P m) : ks_Mx Q m := ⟨(h m).mp H.1, fun v hv => H.2 v ((h v).mpr hv)⟩
theorem ks_Mx_le {P Q : Nat → Prop} {m : Nat} (H : ks_Mx P m) (h : ∀ v, Q v → v ≤ m) : ks_Mx (fun v => P v ∨ Q v) m := ⟨Or.inl H.1, fun v hv => hv.elim (H.2 v) (h v)⟩
theorem ks_Mx_gt {P Q : Nat → Prop} {m q : Nat} (H : ks_Mx P m) (K : ks_Mx Q q) (h : m < q) : ks_Mx (fun v => P v ∨ Q v) q := ⟨Or.inr K.1, fun v hv => hv.elim (fun z => by have := H.2 v z; omega) (K.2 v)⟩
theorem ks_Mx_sh {P : Nat → Prop} {m : Nat} (z : Nat) (H : ks_Mx P m) : ks_Mx (fun v => ∃ v', P v' ∧ v = v' + z) (m + z) := by
  refine ⟨⟨m, H.1, rfl⟩, fun v hv => ?_⟩
  obtain ⟨v', h1, h2⟩ := hv
  have := H.2 v' h1
  omega
theorem ks_R2_b {c : Nat} {W V C : Nat → Nat} {a b v : Nat} (hc : c ≤ 7) (hC : ∀ i, i < c → C i ≤ 2) (hV : ∀ i, i < c → V i ≤ 50) (h : ks_R2 c W V C a b v) : v ≤ 1400 := by
  obtain ⟨x, y, h1, h2, h3, h4⟩ := h
  have p := ks_vb (d := x) (V := V) hc (fun i hi => by have := h1 i hi; have := hC i hi; omega) hV
  have q := ks_vb (d := y) (V := V) hc (fun i hi => by have := h1 i hi; have := hC i hi; omega) hV
  omega
theorem ks_R2_step {c k : Nat} {W V C : Nat → Nat} {a b : Nat} (hk : k < c) (v : Nat) :
    ((ks_R2 c W V C a b v ∨ (W k ≤ a ∧ ∃ v', ks_R2 c W V C (a - W k) b v' ∧ v = v' + V k)) ∨ (W k ≤ b ∧ ∃ v', ks_R2 c W V C a (b - W k) v' ∧ v = v' + V k)) ↔ ks_R2 c W V (ks_up C k (C k + 1)) a b v := by
  have hC : ∀ i, C i ≤ ks_up C k (C k + 1) i := by
    intro i
    by_cases e : i = k
    · rw [e, ks_up_s]; omega
    · rw [ks_up_n e]; omega
  constructor
  · rintro ((⟨x, y, h1, h2, h3, h4⟩ | ⟨hw, v', ⟨x, y, h1, h2, h3, h4⟩, ev⟩) | ⟨hw, v', ⟨x, y, h1, h2, h3, h4⟩, ev⟩)
    · exact ⟨x, y, fun i hi => Nat.le_trans (h1 i hi) (hC i), h2, h3, h4⟩
    · have p := ks_dot_up (d := x) (W := W) (k := k) (p := x k + 1) c hk
      have q := ks_dot_up (d := x) (W := V) (k := k) (p := x k + 1) c hk
      rw [Nat.add_mul, Nat.one_mul] at p q
      refine ⟨ks_up x k (x k + 1), y, ?_, by omega, h3, by omega⟩
      intro i hi
      have := h1 i hi
      by_cases e : i = k
      · subst e; rw [ks_up_s, ks_up_s]; omega
      · rw [ks_up_n e, ks_up_n e]; exact this
    · have p := ks_dot_up (d := y) (W := W) (k := k) (p := y k + 1) c hk
      have q := ks_dot_up (d := y) (W := V) (k := k) (p := y k + 1) c hk
      rw [Nat.add_mul, Nat.one_mul] at p q
      refine ⟨x, ks_up y k (y k + 1), ?_, h2, by omega, by omega⟩
      intro i hi
      have := h1 i hi
      by_cases e : i = k
      · subst e; rw [ks_up_s, ks_up_s]; omega
      · rw [ks_up_n e, ks_up_n e]; exact this
  · intro ⟨x, y, h1, h2, h3, h4⟩
    have hk1 := h1 k hk
    rw [ks_up_s] at hk1
    by_cases z : x k + y k ≤ C k
    · refine Or.inl (Or.inl ⟨x, y, fun i hi => ?_, h2, h3, h4⟩)
      have := h1 i hi
      by_cases e : i = k
      · subst e; exact z
      · rw [ks_up_n e] at this; exact this
    · by_cases zx : 0 < x k
      · obtain ⟨t, ht⟩ : ∃ t, x k = t + 1 := ⟨x k - 1, by omega⟩
        have p := ks_dot_up (d := x) (W := W) (k := k) (p := t) c hk
        have q := ks_dot_up (d := x) (W := V) (k := k) (p := t) c hk
        have p2 := ks_dot_term (d := x) (W := W) c hk
        rw [ht, Nat.add_mul, Nat.one_mul] at p q p2
        refine Or.inl (Or.inr ⟨by omega, ks_dot (ks_up x k t) V c + ks_dot y V c, ⟨ks_up x k t, y, fun i hi => ?_, by omega, h3, rfl⟩, by omega⟩)
        have := h1 i hi
        by_cases e : i = k
        · subst e; rw [ks_up_s]; omega
        · rw [ks_up_n e]; rw [ks_up_n e] at this; exact this
      · obtain ⟨t, ht⟩ : ∃ t, y k = t + 1 := ⟨y k - 1, by omega⟩
        have p := ks_dot_up (d := y) (W := W) (k := k) (p := t) c hk
        have q := ks_dot_up (d := y) (W := V) (k := k) (p := t) c hk
        have p2 := ks_dot_term (d := y) (W := W) c hk
        rw [ht, Nat.add_mul, Nat.one_mul] at p q p2
        refine Or.inr ⟨by omega, ks_dot x V c + ks_dot (ks_up y k t) V c, ⟨x, ks_up y k t, fun i hi => ?_, h2, by omega, rfl⟩, by omega⟩
        have := h1 i hi
        by_cases e : i = k
        · subst e; rw [ks_up_s]; omega
        · rw [ks_up_n e]; rw [ks_up_n e] at this; exact this
/-- one cell of X's table over both limits -/
def ks_PC (c : Nat) (W V C : Nat → Nat) (pr : Nat → Int32) (a b : Nat) : Prop := ∃ m, m ≤ 1400 ∧ pr (61 * a + b) = nI m ∧ ks_Mx (ks_R2 c W V C a b) m
def ks_PI (c : Nat) (W V C D : Nat → Nat) (pr : Nat → Int32) (a b : Nat) : Prop := ∀ a' b', a' ≤ 60 → b' ≤ 60 → ((a < a' ∨ (a' = a ∧ b ≤ b')) → ks_PC c W V D pr a' b') ∧ (¬ (a < a' ∨ (a' = a ∧ b ≤ b')) → ks_PC c W V C pr a' b')
theorem ks_PI_s {c a b m : Nat} {W V C D : Nat → Nat} {pr : Nat → Int32} (ha : a ≤ 60) (hb : b ≤ 60) (h : ks_PI c W V C D pr a (b + 1)) (hm : m ≤ 1400) (hM : ks_Mx (ks_R2 c W V D a b) m) : ks_PI c W V C D (upd pr (61 * a + b) (nI m)) a b := by
  intro a' b' h1 h2
  by_cases e : a' = a ∧ b' = b
  · obtain ⟨e1, e2⟩ := e
    subst e1 e2
    exact ⟨fun _ => ⟨m, hm, pk_us, hM⟩, fun z => absurd (Or.inr ⟨rfl, Nat.le_refl _⟩) z⟩
  · have hne : 61 * a' + b' ≠ 61 * a + b := by omega
    obtain ⟨k1, k2⟩ := h a' b' h1 h2
    unfold ks_PC at k1 k2 ⊢
    rw [pk_un hne]
    exact ⟨fun z => k1 (by omega), fun z => k2 (by omega)⟩
theorem ks_m61 (a : Nat) : (61 : Int32) * nI a = nI (61 * a) := pk_mul 61 a
section
variable {c L : Nat} {aw av au af tb wy st fx pr : Nat → Int32} {W V S F : Nat → Nat}
theorem ks_pp119 {post : SX → Prop} {J3 J11 : Int32 → (Nat → Int32) → (Nat → Int32) → (Nat → Int32) → (Nat → Int32) → (Nat → Int32) → (Nat → Int32) → (Nat → Int32) → (Nat → Int32) → (Nat → Int32) → Prop} {x1 x2 x5 : Int32} {a b : Nat} (ha : a ≤ 60) (hb : b ≤ 60)
    (h : J11 (nI b + (-1)) aw av au af tb wy st fx (upd pr (61 * a + b) x5)) : wX_placePiece_119 post J3 J11 x1 x2 (nI a) (nI b) x5 (nI c) (nI L) aw av au af tb wy st fx pr := by
  have ej : (61 : Int32) * nI a + nI b = nI (61 * a + b) := by rw [ks_m61, nI_add]
  unfold wX_placePiece_119
  rw [ej, nI_clamp (show 61 * a + b < 2 ^ 31 by omega)]
  exact ⟨vp_in_nI (by omega) (by decide), nm_e (nm_e h)⟩
theorem ks_pp74 {post : SX → Prop} {J3 J11 : Int32 → (Nat → Int32) → (Nat → Int32) → (Nat → Int32) → (Nat → Int32) → (Nat → Int32) → (Nat → Int32) → (Nat → Int32) → (Nat → Int32) → (Nat → Int32) → Prop} {C : Nat → Nat} {a b k t : Nat} {P : Nat → Prop} (hc : c ≤ 7) (hk : k < c) (hW : 1 ≤ W k) (hW2 : W k ≤ 20) (hV : V k ≤ 50) (ha : a ≤ 60) (hb : b ≤ 60) (ht : t ≤ 1450)
    (hI : ks_PI c W V C (ks_up C k (C k + 1)) pr a (b + 1)) (hT : ks_Mx P t)
    (hJ : ∀ t', t' ≤ 1450 → ks_Mx (fun v => P v ∨ (W k ≤ b ∧ ∃ v', ks_R2 c W V C a (b - W k) v' ∧ v = v' + V k)) t' → J11 (nI b + (-1)) aw av au af tb wy st fx (upd pr (61 * a + b) (nI t'))) :
    wX_placePiece_74 post J3 J11 (nI (W k)) (nI (V k)) (nI a) (nI b) (nI t) (nI c) (nI L) aw av au af tb wy st fx pr := by
  unfold wX_placePiece_74
  refine pk_lt b (W k) (fun h => ks_pp119 ha hb (hJ t ht (ks_Mx_le hT (fun v hv => absurd hv.1 (by omega))))) (fun h => ?_)
  have ej : (61 : Int32) * nI a + nI b - nI (W k) = nI (61 * a + (b - W k)) := by
    rw [ks_m61, nI_add, pk_sub (by omega)]
    exact congrArg nI (by omega)
  obtain ⟨m, m1, m2, m3⟩ := (hI a (b - W k) ha (by omega)).2 (by omega)
  rw [ej, nI_clamp (show 61 * a + (b - W k) < 2 ^ 31 by omega), m2, nI_add]
  have hs := ks_Mx_sh (V k) m3
  refine ⟨vp_in_nI (by omega) (by decide), pk_le (m + V k) t (fun z => ks_pp119 ha hb (hJ t ht (ks_Mx_le hT (fun v hv => ?_)))) (fun z => ⟨vp_in_nI (by omega) (by decide), nm_e (ks_pp119 ha hb (hJ _ (by omega) ?_))⟩)⟩
  · have := hs.2 v hv.2
    omega
  · refine ks_Mx_congr (fun v => ?_) (ks_Mx_gt hT hs z)
    exact ⟨fun y => y.elim Or.inl (fun y => Or.inr ⟨h, y⟩), fun y => y.elim Or.inl (fun y => Or.inr y.2)⟩
theorem ks_pp11 {post : SX → Prop} {J3 : Int32 → (Nat → Int32) → (Nat → Int32) → (Nat → Int32) → (Nat → Int32) → (Nat → Int32) → (Nat → Int32) → (Nat → Int32) → (Nat → Int32) → (Nat → Int32) → Prop} {C : Nat → Nat} {a k : Nat} (hc : c ≤ 7) (hk : k < c) (hW : 1 ≤ W k) (hW2 : W k ≤ 20) (hV : ∀ i, i < c → V i ≤ 50) (hC : ∀ i, i < c → ks_up C k (C k + 1) i ≤ 2) (ha : a ≤ 60)
    (hJ : ∀ pr, ks_PI c W V C (ks_up C k (C k + 1)) pr a 0 → J3 (nI a + (-1)) aw av au af tb wy st fx pr) :
    ∀ b n pr, b ≤ 61 → b < n → ks_PI c W V C (ks_up C k (C k + 1)) pr a b → wX_placePiece_11 post J3 (nI (W k)) (nI (V k)) (nI a) (nI c) (nI L) n (nI b + (-1)) aw av au af tb wy st fx pr := by
  intro b
  induction b with
  | zero =>
    intro n pr _ hn hI
    obtain ⟨n, rfl⟩ : ∃ m, n = m + 1 := ⟨n - 1, by omega⟩
    exact br_t ks_neg1 (nm_e (hJ pr hI))
  | succ b ih =>
    intro n pr hb hn hI
    obtain ⟨n, rfl⟩ : ∃ m, n = m + 1 := ⟨n - 1, by omega⟩
    rw [pk_m1]
    have hVk := hV k hk
    have ej : (61 : Int32) * nI a + nI b = nI (61 * a + b) := by rw [ks_m61, nI_add]
    obtain ⟨m, m1, m2, m3⟩ := (hI a b ha (by omega)).2 (by omega)
    refine br_f (nI_pos (by omega)) ?_
    rw [ej, nI_clamp (show 61 * a + b < 2 ^ 31 by omega), m2]
    refine ⟨vp_in_nI (by omega) (by decide), nm_e ?_⟩
    have h74 : ∀ t, t ≤ 1450 → ks_Mx (fun v => ks_R2 c W V C a b v ∨ (W k ≤ a ∧ ∃ v', ks_R2 c W V C (a - W k) b v' ∧ v = v' + V k)) t → wX_placePiece_74 post J3 (wX_placePiece_11 post J3 (nI (W k)) (nI (V k)) (nI a) (nI c) (nI L) n) (nI (W k)) (nI (V k)) (nI a) (nI b) (nI t) (nI c) (nI L) aw av au af tb wy st fx pr := by
      intro t ht hM
      refine ks_pp74 (C := C) hc hk hW hW2 hVk ha (by omega) ht hI hM (fun t' _ hM' => ?_)
      have hM2 := ks_Mx_congr (ks_R2_step hk) hM'
      exact ih n _ (by omega) (by omega) (ks_PI_s ha (by omega) hI (ks_R2_b hc hC hV hM2.1) hM2)
    refine pk_lt a (W k) (fun h => h74 m (by omega) (ks_Mx_le m3 (fun v hv => absurd hv.1 (by omega)))) (fun h => ?_)
    have ej2 : (61 : Int32) * (nI a - nI (W k)) + nI b = nI (61 * (a - W k) + b) := by rw [pk_sub h, ks_m61, nI_add]
    obtain ⟨q, q1, q2, q3⟩ := (hI (a - W k) b (by omega) (by omega)).2 (by omega)
    rw [ej2, nI_clamp (show 61 * (a - W k) + b < 2 ^ 31 by omega), q2, nI_add]
    have hs := ks_Mx_sh (V k) q3
    refine ⟨vp_in_nI (by omega) (by decide), pk_le (q + V k) m (fun z => h74 m (by omega) (ks_Mx_le m3 (fun v hv => ?_))) (fun z => ⟨vp_in_nI (by omega) (by decide), nm_e (h74 _ (by omega) ?_)⟩)⟩
    · have := hs.2 v hv.2
      omega
    · refine ks_Mx_congr (fun v => ?_) (ks_Mx_gt m3 hs z)
      exact ⟨fun y => y.elim Or.inl (fun y => Or.inr ⟨h, y⟩), fun y => y.elim Or.inl (fun y => Or.inr y.2)⟩
theorem ks_pp3 {post : SX → Prop} {C : Nat → Nat} {k : Nat} (hc : c ≤ 7) (hk : k < c) (hW : 1 ≤ W k) (hW2 : W k ≤ 20) (hV : ∀ i, i < c → V i ≤ 50) (hC : ∀ i, i < c → ks_up C k (C k + 1) i ≤ 2)
    (hp : ∀ pr, (∀ a b, a ≤ 60 → b ≤ 60 → ks_PC c W V (ks_up C k (C k + 1)) pr a b) → post (nI c, nI L, aw, av, au, af, tb, wy, st, fx, pr)) :
    ∀ a n pr, a ≤ 61 → a < n → ks_PI c W V C (ks_up C k (C k + 1)) pr a 0 → wX_placePiece_3 post (nI (W k)) (nI (V k)) (nI c) (nI L) n (nI a + (-1)) aw av au af tb wy st fx pr := by
  intro a
  induction a with
  | zero =>
    intro n pr _ hn hI
    obtain ⟨n, rfl⟩ : ∃ m, n = m + 1 := ⟨n - 1, by omega⟩
    exact br_t ks_neg1 (hp pr (fun a b h1 h2 => (hI a b h1 h2).1 (by omega)))
  | succ a ih =>
    intro n pr ha hn hI
    obtain ⟨n, rfl⟩ : ∃ m, n = m + 1 := ⟨n - 1, by omega⟩
    rw [pk_m1]
    refine br_f (nI_pos (by omega)) ⟨62, ks_pp11 (C := C) hc hk hW hW2 hV hC (by omega) (fun pr h => ih n pr (by omega) (by omega) h) 61 62 pr (by omega) (by omega) ?_⟩
    intro a' b' h1 h2
    obtain ⟨k1, k2⟩ := hI a' b' h1 h2
    exact ⟨fun z => k1 (by omega), fun z => k2 (by omega)⟩
theorem ks_placePiece {post : SX → Prop} {C : Nat → Nat} {k : Nat} (hc : c ≤ 7) (hk : k < c) (hW : 1 ≤ W k) (hW2 : W k ≤ 20) (hV : ∀ i, i < c → V i ≤ 50) (hC : ∀ i, i < c → ks_up C k (C k + 1) i ≤ 2)
    (h0 : ∀ a b, a ≤ 60 → b ≤ 60 → ks_PC c W V C pr a b)
    (hp : ∀ pr, (∀ a b, a ≤ 60 → b ≤ 60 → ks_PC c W V (ks_up C k (C k + 1)) pr a b) → post (nI c, nI L, aw, av, au, af, tb, wy, st, fx, pr)) : wpX_placePiece post (nI c, nI L, aw, av, au, af, tb, wy, st, fx, pr) (nI (W k)) (nI (V k)) := by
  refine ⟨62, ?_⟩
  refine ks_pp3 (C := C) hc hk hW hW2 hV hC hp 61 62 pr (by omega) (by omega) ?_
  intro a' b' h1 h2
  exact ⟨fun z => by omega, fun _ => h0 a' b' h1 h2⟩
def ks_Ck (S : Nat → Nat) (k p : Nat) : Nat → Nat := fun i => if i < k then S i else if i = k then p else 0
theorem ks_Ck_k (S : Nat → Nat) (k p : Nat) : ks_Ck S k p k = p := by
  unfold ks_Ck
  rw [if_neg (Nat.lt_irrefl _), if_pos rfl]
theorem ks_Ck_s (S : Nat → Nat) (k p : Nat) : ks_up (ks_Ck S k p) k (ks_Ck S k p k + 1) = ks_Ck S k (p + 1) := by
  funext i
  rw [ks_Ck_k]
  by_cases e : i = k
  · rw [e, ks_up_s, ks_Ck_k]
  · rw [ks_up_n e]
    unfold ks_Ck
    rw [if_neg e, if_neg e]
theorem ks_Ck_n (S : Nat → Nat) (k : Nat) : ks_Ck S k (S k) = ks_Ck S (k + 1) 0 := by
  funext i
  unfold ks_Ck
  by_cases h1 : i < k
  · rw [if_pos h1, if_pos (by omega)]
  · by_cases h2 : i = k
    · subst h2
      rw [if_neg (Nat.lt_irrefl _), if_pos rfl, if_pos (by omega)]
    · rw [if_neg h1, if_neg h2, if_neg (by omega)]
      by_cases h3 : i = k + 1
      · rw [if_pos h3]
      · rw [if_neg h3]
theorem ks_two46 {post : Int32 → SX → Prop} {J : Int32 → Int32 → Int32 → (Nat → Int32) → (Nat → Int32) → (Nat → Int32) → (Nat → Int32) → (Nat → Int32) → (Nat → Int32) → (Nat → Int32) → (Nat → Int32) → (Nat → Int32) → Prop} {x1 : Int32} {k : Nat} (hc : c ≤ 7) (hk : k < c) (hG : ks_G c aw av au af W V S F)
    (hJ : ∀ pr, (∀ a b, a ≤ 60 → b ≤ 60 → ks_PC c W V (ks_Ck S (k + 1) 0) pr a b) → J (nI (k + 1)) (nI c) (nI L) aw av au af tb wy st fx pr) :
    ∀ n p pr, p ≤ S k → S k - p < n → (∀ a b, a ≤ 60 → b ≤ 60 → ks_PC c W V (ks_Ck S k p) pr a b) → wX_two_46 post J x1 (nI k) n (nI p) (nI c) (nI L) aw av au af tb wy st fx pr := by
  obtain ⟨g1, g2, g3, g4, g5, g6, g7, g8, g9, g10⟩ := hG k hk
  have hV : ∀ i, i < c → V i ≤ 50 := fun i hi => (hG i hi).2.2.2.2.2.2.1
  have hS : ∀ i, i < c → S i ≤ 2 := fun i hi => (hG i hi).2.2.2.2.2.2.2.2.1
  intro n
  induction n with
  | zero => intro p pr _ h; exact absurd h (Nat.not_lt_zero _)
  | succ n ih =>
    intro p pr h1 h2 hI
    refine ⟨vp_in_nI (by omega) (by decide), ?_⟩
    rw [nI_clamp (show k < 2 ^ 31 by omega), g1, g2, g3]
    refine pk_le (S k) p (fun h => nm_r (nI_1 k) (hJ pr ?_)) (fun h => ⟨vp_in_nI (by omega) (by decide), vp_in_nI (by omega) (by decide), ?_⟩)
    · have e : p = S k := by omega
      rw [e, ks_Ck_n] at hI
      exact hI
    · refine ks_placePiece (C := ks_Ck S k p) hc hk g5 g6 hV ?_ hI (fun pr' hI' => nm_r (nI_1 p) (ih (p + 1) pr' (by omega) (by omega) ?_))
      · intro i hi
        rw [ks_Ck_s]
        unfold ks_Ck
        have := hS i hi
        by_cases e1 : i < k
        · rw [if_pos e1]; exact this
        · rw [if_neg e1]
          by_cases e2 : i = k
          · rw [if_pos e2]; omega
          · rw [if_neg e2]; omega
      · rw [ks_Ck_s] at hI'
        exact hI'
theorem ks_two36 {post : Int32 → SX → Prop} {o : Nat} (hc : c ≤ 7) (hL : L ≤ 60) (ho : o ≤ 60) (hG : ks_G c aw av au af W V S F)
    (hp : ∀ m pr, ks_Mx (ks_R2 c W V S L o) m → post (nI m) (nI c, nI L, aw, av, au, af, tb, wy, st, fx, pr)) :
    ∀ n k pr, k ≤ c → c - k < n → (∀ a b, a ≤ 60 → b ≤ 60 → ks_PC c W V (ks_Ck S k 0) pr a b) → wX_two_36 post (nI o) n (nI k) (nI c) (nI L) aw av au af tb wy st fx pr := by
  intro n
  induction n with
  | zero => intro k pr _ h; exact absurd h (Nat.not_lt_zero _)
  | succ n ih =>
    intro k pr h1 h2 hI
    refine pk_le c k (fun h => ?_) (fun h => ⟨S k + 1, ks_two46 hc h hG (fun pr' h' => ih (k + 1) pr' (by omega) (by omega) h') (S k + 1) 0 pr (by omega) (by omega) hI⟩)
    have e : k = c := by omega
    subst e
    have ej : (61 : Int32) * nI L + nI o = nI (61 * L + o) := by rw [ks_m61, nI_add]
    rw [ej, nI_clamp (show 61 * L + o < 2 ^ 31 by omega)]
    obtain ⟨m, m1, m2, m3⟩ := hI L o hL ho
    rw [m2]
    refine ⟨vp_in_nI (by omega) (by decide), hp m pr (ks_Mx_congr (fun v => ?_) m3)⟩
    have hCk : ∀ i, i < k → ks_Ck S k 0 i = S i := fun i hi => if_pos hi
    constructor
    · intro ⟨x, y, a1, a2⟩
      exact ⟨x, y, fun i hi => by rw [← hCk i hi]; exact a1 i hi, a2⟩
    · intro ⟨x, y, a1, a2⟩
      exact ⟨x, y, fun i hi => by rw [hCk i hi]; exact a1 i hi, a2⟩
theorem ks_two14 {post : Int32 → SX → Prop} {o : Nat} (hc : c ≤ 7) (hL : L ≤ 60) (ho : o ≤ 60) (hG : ks_G c aw av au af W V S F)
    (hp : ∀ m pr, ks_Mx (ks_R2 c W V S L o) m → post (nI m) (nI c, nI L, aw, av, au, af, tb, wy, st, fx, pr)) :
    ∀ n j pr, j ≤ 3721 → 3721 - j < n → (∀ i, i < j → pr i = 0) → wX_two_14 post (nI o) (nI c) (nI L) n (nI j) aw av au af tb wy st fx pr := by
  intro n
  induction n with
  | zero => intro j pr _ h; exact absurd h (Nat.not_lt_zero _)
  | succ n ih =>
    intro j pr h1 h2 hI
    refine pk_le 3721 j (fun h => ⟨c + 1, ks_two36 hc hL ho hG hp (c + 1) 0 pr (by omega) (by omega) ?_⟩) (fun h => ⟨vp_in_nI (by omega) (by decide), nm_e (nm_r (nI_1 j) (ih (j + 1) _ (by omega) (by omega) ?_))⟩)
    · intro a b ha hb
      refine ⟨0, by omega, hI _ (by omega), ⟨fun _ => 0, fun _ => 0, fun i _ => Nat.zero_le _, ?_, ?_, ?_⟩, ?_⟩
      · rw [ks_dot_zero c (fun _ _ => rfl)]; omega
      · rw [ks_dot_zero c (fun _ _ => rfl)]; omega
      · rw [ks_dot_zero c (fun _ _ => rfl)]
      · intro v ⟨x, y, z1, z2, z3, z4⟩
        have e0 : ∀ i, ks_Ck S 0 0 i = 0 := by
          intro i
          unfold ks_Ck
          rw [if_neg (Nat.not_lt_zero _)]
          by_cases e : i = 0
          · rw [if_pos e]
          · rw [if_neg e]
        rw [ks_dot_zero (d := x) c (fun i hi => by have := z1 i hi; rw [e0] at this; omega), ks_dot_zero (d := y) c (fun i hi => by have := z1 i hi; rw [e0] at this; omega)] at z4
        omega
    · intro i hi
      rw [nI_clamp (by omega)]
      by_cases e : i = j
      · subst e; exact pk_us
      · rw [pk_un e]; exact hI i (by omega)
theorem ks_xtwo {post : Int32 → SX → Prop} {o : Nat} (hc : c ≤ 7) (hL : L ≤ 60) (ho : o ≤ 60) (hG : ks_G c aw av au af W V S F)
    (hp : ∀ m pr, ks_Mx (ks_R2 c W V S L o) m → post (nI m) (nI c, nI L, aw, av, au, af, tb, wy, st, fx, pr)) : wpX_two post (nI c, nI L, aw, av, au, af, tb, wy, st, fx, pr) (nI o) := by
  refine br_f (nI_pos (by omega)) (br_t (nI_le (b := 60) (by omega) (by decide)) ⟨3722, ?_⟩)
  exact ks_two14 hc hL ho hG hp 3722 0 pr (by omega) (by omega) (fun i hi => absurd hi (Nat.not_lt_zero _))
end
end
section
/-! Y: two choices, digits to the base 6 -/
def ks_fa (x : Nat) : Nat := if x < 3 then 0 else if x < 5 then 1 else 2
def ks_fb (x : Nat) : Nat := if x < 3 then x else if x < 5 then x - 3 else 0
theorem ks_f1 {x : Nat} (h : x < 3) : ks_fa x = 0 ∧ ks_fb x = x := ⟨if_pos h, if_pos h⟩
theorem ks_f2 {x : Nat} (h : 3 ≤ x) (h2 : x < 5) : ks_fa x = 1 ∧ ks_fb x = x - 3 := by
  unfold ks_fa ks_fb
  rw [if_neg (show ¬ x < 3 by omega), if_neg (show ¬ x < 3 by omega), if_pos h2, if_pos h2]
  exact ⟨rfl, rfl⟩
theorem ks_f3 {x : Nat} (h : 5 ≤ x) : ks_fa x = 2 ∧ ks_fb x = 0 := by
  unfold ks_fa ks_fb
  rw [if_neg (show ¬ x < 3 by omega), if_neg (show ¬ x < 3 by omega), if_neg (show ¬ x < 5 by omega), if_neg (show ¬ x < 5 by omega)]
  exact ⟨rfl, rfl⟩
theorem ks_fab {x : Nat} (hx : x < 6) : ks_fa x ≤ 2 ∧ ks_fb x ≤ 2 := by
  by_cases h : x < 3
  · rw [(ks_f1 h).1, (ks_f1 h).2]; omega
  · by_cases h2 : x < 5
    · rw [(ks_f2 (by omega) h2).1, (ks_f2 (by omega) h2).2]; omega
    · rw [(ks_f3 (by omega)).1, (ks_f3 (by omega)).2]; omega
def ks_dx (r i : Nat) : Nat := ks_fa (r / 6 ^ i % 6)
def ks_dy (r i : Nat) : Nat := ks_fb (r / 6 ^ i % 6)
theorem ks_enc : ∀ (c : Nat) (s : Nat → Nat), (∀ i, i < c → s i < 6) → ∃ r, r < 6 ^ c ∧ ∀ i, i < c → r / 6 ^ i % 6 = s i
  | 0, s, _ => ⟨0, by show 0 < 1; omega, fun i hi => absurd hi (Nat.not_lt_zero _)⟩
  | c + 1, s, h => by
    obtain ⟨r, h1, h2⟩ := ks_enc c (fun i => s (i + 1)) (fun i hi => h (i + 1) (by omega))
    have h0 := h 0 (by omega)
    refine ⟨s 0 + 6 * r, by rw [Nat.pow_succ]; omega, fun i hi => ?_⟩
    cases i with
    | zero => rw [Nat.pow_zero, Nat.div_one]; omega
    | succ i =>
      rw [Nat.pow_succ, Nat.mul_comm (6 ^ i) 6, ← Nat.div_div_eq_div_mul, show (s 0 + 6 * r) / 6 = r by omega]
      exact h2 i (by omega)
theorem ks_enc2 {c : Nat} {x y : Nat → Nat} (h : ∀ i, i < c → x i + y i ≤ 2) : ∃ r, r < 6 ^ c ∧ ∀ i, i < c → ks_dx r i = x i ∧ ks_dy r i = y i := by
  obtain ⟨r, h1, h2⟩ := ks_enc c (fun i => if x i = 0 then y i else if x i = 1 then 3 + y i else 5) (fun i hi => by
    have := h i hi
    show (if x i = 0 then y i else if x i = 1 then 3 + y i else 5) < 6
    by_cases e : x i = 0
    · rw [if_pos e]; omega
    · rw [if_neg e]
      by_cases e2 : x i = 1
      · rw [if_pos e2]; omega
      · rw [if_neg e2]; omega)
  refine ⟨r, h1, fun i hi => ?_⟩
  unfold ks_dx ks_dy
  rw [h2 i hi]
  have := h i hi
  show ks_fa (if x i = 0 then y i else if x i = 1 then 3 + y i else 5) = x i ∧ ks_fb (if x i = 0 then y i else if x i = 1 then 3 + y i else 5) = y i
  by_cases e : x i = 0
  · rw [if_pos e, (ks_f1 (x := y i) (by omega)).1, (ks_f1 (x := y i) (by omega)).2]
    exact ⟨e.symm, rfl⟩
  · rw [if_neg e]
    by_cases e2 : x i = 1
    · rw [if_pos e2, (ks_f2 (x := 3 + y i) (by omega) (by omega)).1, (ks_f2 (x := 3 + y i) (by omega) (by omega)).2]
      omega
    · rw [if_neg e2, (ks_f3 (x := 5) (by omega)).1, (ks_f3 (x := 5) (by omega)).2]
      omega
theorem ks_6c {c : Nat} (hc : c ≤ 7) : 6 ^ c ≤ 279936 := Nat.pow_le_pow_right (n := 6) (by omega) hc
/-- the code r is a pair of choices that fits -/
def ks_V2 (c : Nat) (W S : Nat → Nat) (L o r : Nat) : Prop := (∀ i, i < c → ks_dx r i + ks_dy r i ≤ S i) ∧ ks_dot (ks_dx r) W c ≤ L ∧ ks_dot (ks_dy r) W c ≤ o
section
variable {c L : Nat} {aw av au af tk : Nat → Int32} {W V S F : Nat → Nat} {hv wo : Int32}
theorem ks_bo57 {post : Int32 → Prop} {J : Int32 → Int32 → Int32 → Int32 → Int32 → Prop} {x2 x3 x4 x5 x6 x7 : Int32} {x : Nat} (hx : x < 6) (h : wY_both_84 post J x2 x3 x4 x5 x6 x7 (nI (ks_fa x)) (nI (ks_fb x)) (nI c) (nI L) hv wo aw av au af tk) :
    ((3 ≤ nI x → ((5 ≤ nI x → wY_both_57 post J x2 x3 x4 x5 x6 x7 (nI x) 2 (nI c) (nI L) hv wo aw av au af tk) ∧ (¬ 5 ≤ nI x → wY_both_57 post J x2 x3 x4 x5 x6 x7 (nI x) 1 (nI c) (nI L) hv wo aw av au af tk))) ∧ (¬ 3 ≤ nI x → wY_both_57 post J x2 x3 x4 x5 x6 x7 (nI x) 0 (nI c) (nI L) hv wo aw av au af tk)) := by
  refine pk_le 3 x (fun h3 => pk_le 5 x (fun h5 => ?_) (fun h5 => ?_)) (fun h3 => ?_)
  · rw [(ks_f3 h5).1, (ks_f3 h5).2] at h
    exact pk_le 3 x (fun _ => pk_le 5 x (fun _ => h) (fun z => absurd z (by omega))) (fun z => absurd z (by omega))
  · rw [(ks_f2 h3 h5).1, (ks_f2 h3 h5).2, ← pk_sub h3] at h
    exact pk_le 3 x (fun _ => pk_le 5 x (fun z => absurd z (by omega)) (fun _ => h)) (fun z => absurd z (by omega))
  · rw [(ks_f1 h3).1, (ks_f1 h3).2] at h
    exact pk_le 3 x (fun z => absurd z (by omega)) (fun _ => h)
theorem ks_bo14 {post : Int32 → Prop} {o r : Nat} (hc : c ≤ 7) (hL : L ≤ 60) (ho : o ≤ 60) (hr : r < 2 ^ 31) (hG : ks_G c aw av au af W V S F)
    (h1 : ks_V2 c W S L o r → post (nI (ks_dot (fun i => ks_dx r i + ks_dy r i) V c))) (h0 : ¬ ks_V2 c W S L o r → post (-1)) :
    ∀ n i, i ≤ c → c - i < n → (∀ j, j < i → ks_dx r j + ks_dy r j ≤ S j) → wY_both_14 post (nI o) (nI c) (nI L) hv wo aw av au af tk n (nI (r / 6 ^ i)) (nI (ks_dot (ks_dx r) W i)) (nI (ks_dot (ks_dy r) W i)) (nI (ks_dot (fun i => ks_dx r i + ks_dy r i) V i)) (nI i) := by
  intro n
  induction n with
  | zero => intro i _ h; exact absurd h (Nat.not_lt_zero _)
  | succ n ih =>
    intro i k1 k2 hI
    have hdx : ∀ i, ks_dx r i ≤ 2 ∧ ks_dy r i ≤ 2 := fun i => ks_fab (Nat.mod_lt _ (by omega))
    refine pk_le c i (fun h => ?_) (fun h => br_f (nI_ge (b := 7) (by omega) (by decide)) ⟨by decide, ?_⟩)
    · have e : i = c := by omega
      subst e
      have b1 := ks_wb (S := S) (d := ks_dx r) hc (fun j _ => (hdx j).1) (fun j hj => (hG j hj).2.2.2.2.2.1)
      have b2 := ks_wb (S := S) (d := ks_dy r) hc (fun j _ => (hdx j).2) (fun j hj => (hG j hj).2.2.2.2.2.1)
      exact pk_lt L (ks_dot (ks_dx r) W i) (fun z => h0 (fun y => by have := y.2.1; omega)) (fun z => pk_lt o (ks_dot (ks_dy r) W i) (fun z2 => h0 (fun y => by have := y.2.2; omega)) (fun z2 => h1 ⟨hI, z, z2⟩))
    · obtain ⟨g1, g2, g3, g4, g5, g6, g7, g8, g9, g10⟩ := hG i h
      have hrr : r / 6 ^ i < 2 ^ 31 := Nat.lt_of_le_of_lt (Nat.div_le_self _ _) hr
      obtain ⟨d1, d2⟩ := hdx i
      refine nm_r (pk_rem (a := r / 6 ^ i) (d := 6) hrr (by decide) (by decide)) ?_
      have h84 : wY_both_84 post (wY_both_14 post (nI o) (nI c) (nI L) hv wo aw av au af tk n) (nI o) (nI (r / 6 ^ i)) (nI (ks_dot (ks_dx r) W i)) (nI (ks_dot (ks_dy r) W i)) (nI (ks_dot (fun i => ks_dx r i + ks_dy r i) V i)) (nI i) (nI (ks_dx r i)) (nI (ks_dy r i)) (nI c) (nI L) hv wo aw av au af tk := by
        unfold wY_both_84
        rw [nI_clamp (show i < 2 ^ 31 by omega), g1, g2, g3, nI_add (ks_dx r i), pk_mul, pk_mul, pk_mul]
        refine ⟨vp_in_nI (by omega) (by decide), pk_le (ks_dx r i + ks_dy r i) (S i) (fun z => ⟨vp_in_nI (by omega) (by decide), nm_r (nI_add _ _) ⟨vp_in_nI (by omega) (by decide), nm_r (nI_add _ _) ⟨vp_in_nI (by omega) (by decide), nm_r (nI_add _ _) ⟨by decide, nm_r (pk_div (a := r / 6 ^ i) (d := 6) hrr (by decide) (by decide)) (nm_r (nI_1 i) ?_)⟩⟩⟩⟩) (fun z => h0 (fun y => by have := y.1 i h; omega))⟩
        have e1 : r / 6 ^ i / 6 = r / 6 ^ (i + 1) := by rw [Nat.div_div_eq_div_mul, Nat.pow_succ]
        rw [e1]
        refine ih (i + 1) (by omega) (by omega) ?_
        intro j hj
        by_cases e : j = i
        · subst e; exact z
        · exact hI j (by omega)
      exact ks_bo57 (Nat.mod_lt _ (by omega)) h84
theorem ks_both {post : Int32 → Prop} {o r : Nat} (hc : c ≤ 7) (hL : L ≤ 60) (ho : o ≤ 60) (hr : r < 2 ^ 31) (hG : ks_G c aw av au af W V S F)
    (h1 : ks_V2 c W S L o r → post (nI (ks_dot (fun i => ks_dx r i + ks_dy r i) V c))) (h0 : ¬ ks_V2 c W S L o r → post (-1)) : wpY_both post (nI c, nI L, hv, wo, aw, av, au, af, tk) (nI r) (nI o) := by
  refine ⟨c + 1, ?_⟩
  have h := ks_bo14 (hv := hv) (wo := wo) (tk := tk) hc hL ho hr hG h1 h0 (c + 1) 0 (by omega) (by omega) (fun j hj => absurd hj (Nat.not_lt_zero _))
  rw [Nat.pow_zero, Nat.div_one] at h
  exact h
theorem ks_two40 {post : Int32 → Prop} {o : Nat} (hc : c ≤ 7) (hL : L ≤ 60) (ho : o ≤ 60) (hG : ks_G c aw av au af W V S F)
    (hp : ∀ m, ks_Mx (ks_R2 c W V S L o) m → post (nI m)) :
    ∀ n s m, s ≤ 6 ^ c → 6 ^ c - s < n → ks_R2 c W V S L o m → (∀ r, r < s → ks_V2 c W S L o r → ks_dot (fun i => ks_dx r i + ks_dy r i) V c ≤ m) → wY_two_40 post (nI o) (nI (6 ^ c)) (nI c) (nI L) hv wo aw av au af tk n (nI m) (nI s) := by
  intro n
  have h6c := ks_6c hc
  have hV : ∀ i, i < c → V i ≤ 50 := fun i hi => (hG i hi).2.2.2.2.2.2.1
  have hS : ∀ i, i < c → S i ≤ 2 := fun i hi => (hG i hi).2.2.2.2.2.2.2.2.1
  induction n with
  | zero => intro s m _ h; exact absurd h (Nat.not_lt_zero _)
  | succ n ih =>
    intro s m h1 h2 hR hI
    refine pk_le (6 ^ c) s (fun h => ?_) (fun h => ?_)
    · have e : s = 6 ^ c := by omega
      subst e
      refine hp m ⟨hR, fun v hv => ?_⟩
      obtain ⟨x, y, z1, z2, z3, z4⟩ := hv
      obtain ⟨r, r1, r2⟩ := ks_enc2 (c := c) (x := x) (y := y) (fun i hi => Nat.le_trans (z1 i hi) (hS i hi))
      have ex : ∀ X : Nat → Nat, ks_dot (ks_dx r) X c = ks_dot x X c := fun X => ks_dot_congr c (fun i hi => (r2 i hi).1)
      have ey : ∀ X : Nat → Nat, ks_dot (ks_dy r) X c = ks_dot y X c := fun X => ks_dot_congr c (fun i hi => (r2 i hi).2)
      have hv2 : ks_V2 c W S L o r := ⟨fun i hi => by rw [(r2 i hi).1, (r2 i hi).2]; exact z1 i hi, by rw [ex]; exact z2, by rw [ey]; exact z3⟩
      have := hI r r1 hv2
      rw [ks_dot_add (ks_dx r) (ks_dy r), ex, ey] at this
      omega
    · have hb := ks_R2_b hc hS hV hR
      have hnx : ∀ m', m ≤ m' → (ks_V2 c W S L o s → ks_dot (fun i => ks_dx s i + ks_dy s i) V c ≤ m') → ∀ r, r < s + 1 → ks_V2 c W S L o r → ks_dot (fun i => ks_dx r i + ks_dy r i) V c ≤ m' := by
        intro m' hm' hs r hr hv2
        by_cases e : r = s
        · subst e; exact hs hv2
        · have := hI r (by omega) hv2
          omega
      refine ks_both hc hL ho (by omega) hG (fun hv2 => ?_) (fun hv2 => ?_)
      · have hR2 : ks_R2 c W V S L o (ks_dot (fun i => ks_dx s i + ks_dy s i) V c) := ⟨ks_dx s, ks_dy s, hv2.1, hv2.2.1, hv2.2.2, (ks_dot_add (ks_dx s) (ks_dy s) V c).symm⟩
        have hb2 := ks_R2_b hc hS hV hR2
        exact pk_le (ks_dot (fun i => ks_dx s i + ks_dy s i) V c) m (fun z => nm_r (nI_1 s) (ih (s + 1) m (by omega) (by omega) hR (hnx m (Nat.le_refl _) (fun _ => z)))) (fun z => nm_r (nI_1 s) (ih (s + 1) _ (by omega) (by omega) hR2 (hnx _ (by omega) (fun _ => Nat.le_refl _))))
      · refine br_t ?_ (nm_r (nI_1 s) (ih (s + 1) m (by omega) (by omega) hR (hnx m (Nat.le_refl _) (fun z => absurd z hv2))))
        rw [Int32.le_iff_toInt_le, nI_toInt (by omega)]
        have : (-1 : Int32).toInt = -1 := by decide
        omega
theorem ks_two16 {post : Int32 → Prop} {o : Nat} (hc : c ≤ 7) (hL : L ≤ 60) (ho : o ≤ 60) (hG : ks_G c aw av au af W V S F)
    (hp : ∀ m, ks_Mx (ks_R2 c W V S L o) m → post (nI m)) : ∀ n i, i ≤ c → c - i < n → wY_two_16 post (nI o) (nI c) (nI L) hv wo aw av au af tk n (nI (6 ^ i)) (nI i) := by
  intro n
  induction n with
  | zero => intro i _ h; exact absurd h (Nat.not_lt_zero _)
  | succ n ih =>
    intro i h1 h2
    refine pk_le c i (fun h => ?_) (fun h => nm_r (e' := nI (6 ^ (i + 1))) ?_ (nm_r (nI_1 i) (ih (i + 1) (by omega) (by omega))))
    · have e : i = c := by omega
      subst e
      refine ⟨6 ^ i + 1, ks_two40 hc hL ho hG hp (6 ^ i + 1) 0 0 (Nat.zero_le _) (Nat.lt_succ_of_le (Nat.sub_le _ _)) ⟨fun _ => 0, fun _ => 0, fun _ _ => Nat.zero_le _, ?_, ?_, ?_⟩ (fun r hr => absurd hr (Nat.not_lt_zero _))⟩
      · rw [ks_dot_zero i (fun _ _ => rfl)]; omega
      · rw [ks_dot_zero i (fun _ _ => rfl)]; omega
      · rw [ks_dot_zero i (fun _ _ => rfl)]
    · rw [Nat.pow_succ, Nat.mul_comm]
      exact pk_mul 6 (6 ^ i)
theorem ks_ytwo {post : Int32 → Prop} {o : Nat} (hc : c ≤ 7) (hL : L ≤ 60) (ho : o ≤ 60) (hG : ks_G c aw av au af W V S F)
    (hp : ∀ m, ks_Mx (ks_R2 c W V S L o) m → post (nI m)) : wpY_two post (nI c, nI L, hv, wo, aw, av, au, af, tk) (nI o) := by
  refine br_f (nI_pos (by omega)) (br_t (nI_le (b := 60) (by omega) (by decide)) ⟨c + 1, ?_⟩)
  exact ks_two16 hc hL ho hG hp (c + 1) 0 (by omega) (by omega)
end
end
section
/-! X: the first code of a best choice, and of a best strict one -/
theorem ks_row0 {c : Nat} {W V S : Nat → Nat} {tb wy : Nat → Int32} (h : ∀ k w, k ≤ c → w ≤ 280 → ks_Cell c W V S tb wy k w) : ∀ w, w ≤ 280 → ks_Top (ks_R c W V (ks_Av c S 0) w) (tb w).toInt ∧ wy w = nI (ks_cnt W S c 0 w) := by
  intro w hw
  have := h 0 w (Nat.zero_le _) hw
  unfold ks_Cell at this
  rw [Nat.mul_zero, Nat.zero_add] at this
  exact this
theorem ks_row0s {c : Nat} {W V S F : Nat → Nat} {fx st : Nat → Int32} (h : ∀ f w, f ≤ 4 → w ≤ 280 → ks_SC c W V S F fx st f w) : ∀ w, w ≤ 280 → ks_Top (ks_R c W V (ks_As c S F (fun i => (fx i).toInt) 0) w) (st w).toInt := by
  intro w hw
  have := h 0 w (Nat.zero_le _) hw
  unfold ks_SC at this
  rw [Nat.mul_zero, Nat.zero_add] at this
  exact this
theorem ks_AC_v {c : Nat} {S : Nat → Nat} (hS : ∀ i, i < c → S i ≤ 2) : ks_AC c (ks_Av c S 0) :=
  ⟨fun d e h hd => ⟨fun i hi => by rw [← h i hi]; exact hd.1 i hi, fun i hi => absurd hi (Nat.not_lt_zero _)⟩, fun d hd i hi => Nat.le_trans (hd.1 i hi) (hS i hi)⟩
/-- q pieces of good k keep to the table -/
def ks_K (c : Nat) (W V S : Nat → Nat) (k w v q : Nat) : Prop := q * W k ≤ w ∧ ∃ v', ks_R c W V (ks_Av c S (k + 1)) (w - q * W k) v' ∧ v = v' + q * V k
theorem ks_K_top {c k w v q : Nat} {W V S : Nat → Nat} {t u : Int} (hk : k < c) (hq : q ≤ S k) (hT : ks_Top (ks_R c W V (ks_Av c S k) w) t) (ht : t = (v : Int)) (hU : ks_Top (ks_R c W V (ks_Av c S (k + 1)) (w - q * W k)) u) (h : ks_K c W V S k w v q) : u = (v : Int) - (q * V k : Nat) := by
  obtain ⟨h1, v', h2, h3⟩ := h
  have a := ks_Top_ge hU h2
  obtain ⟨y, y1, y2, y3⟩ := ks_Top_pos hU (by omega)
  have b := ks_Top_ge hT ((ks_R_step hk w (y + q * V k)).mpr ⟨q, hq, h1, y, y2, rfl⟩)
  omega
theorem ks_K_of {c k w v q : Nat} {W V S : Nat → Nat} {u : Int} (h1 : q * W k ≤ w) (hU : ks_Top (ks_R c W V (ks_Av c S (k + 1)) (w - q * W k)) u) (hb : q * V k ≤ 150) (hu : u = (v : Int) - (q * V k : Nat)) : ks_K c W V S k w v q := by
  have := ks_Top_lo hU
  rcases hU with ⟨e, _⟩ | ⟨y, y1, y2, y3⟩
  · omega
  · exact ⟨h1, y, y2, by omega⟩
theorem ks_K_opt {c k b v wl vl q : Nat} {W V S e d : Nat → Nat} (hk : k < c) (hw : wl + ks_dot e W k = b) (hv : vl + ks_dot e V k = v) (h1 : ks_Av c S 0 d) (h2 : ks_dot d W c = b) (h3 : ks_dot d V c = v) (h4 : ∀ i, i < k → d i = e i) (h5 : d k = q) : ks_K c W V S k wl vl q := by
  have p := ks_dot_cut (d := d) (W := W) (k := k + 1) c (by omega)
  have r := ks_dot_cut (d := d) (W := V) (k := k + 1) c (by omega)
  rw [ks_dot_s, ks_dot_congr k h4, h5] at p r
  refine ⟨by omega, ks_dot (ks_cut d (k + 1)) V c, ⟨ks_cut d (k + 1), ⟨fun i hi => ?_, fun i hi => ks_cut_lo hi⟩, by omega, rfl⟩, by omega⟩
  by_cases z : i < k + 1
  · rw [ks_cut_lo z]; omega
  · rw [ks_cut_hi (by omega)]; exact h1.1 i hi
section
variable {c L : Nat} {aw av au af tb wy st fx pr : Nat → Int32} {W V S F : Nat → Nat}
theorem ks_keeps {post : Int32 → Prop} {k q w v : Nat} (hc : c ≤ 7) (hk : k < c) (hw : w ≤ 280) (hq : q ≤ S k) (hG : ks_G c aw av au af W V S F) (hv : v ≤ 700)
    (hC : ∀ k w, k ≤ c → w ≤ 280 → ks_Cell c W V S tb wy k w) (ht : (tb (281 * k + w)).toInt = (v : Int))
    (h1 : ks_K c W V S k w v q → post 1) (h0 : ¬ ks_K c W V S k w v q → post 0) : wpX_keeps post (nI c, nI L, aw, av, au, af, tb, wy, st, fx, pr) (nI k) (nI q) (nI w) (nI v) := by
  obtain ⟨g1, g2, g3, g4, g5, g6, g7, g8, g9, g10⟩ := hG k hk
  have hqw : q * W k ≤ 2 * 20 := Nat.mul_le_mul (by omega) g6
  have hqv : q * V k ≤ 2 * 50 := Nat.mul_le_mul (by omega) g7
  unfold wpX_keeps
  dsimp only
  rw [nI_clamp (show k < 2 ^ 31 by omega), g1, g2, pk_mul q (W k), pk_mul q (V k)]
  refine ⟨vp_in_nI (by omega) (by decide), nm_e ?_⟩
  by_cases h : q * W k ≤ w
  · have ej : (281 : Int32) * (nI k + 1) + (nI w - nI (q * W k)) = nI (281 * (k + 1) + (w - q * W k)) := by rw [pk_sub h, nI_1, ks_m281, nI_add]
    rw [ej, nI_clamp (show 281 * (k + 1) + (w - q * W k) < 2 ^ 31 by omega)]
    have hU := (hC (k + 1) (w - q * W k) (by omega) (by omega)).1
    have hiff : tb (281 * (k + 1) + (w - q * W k)) = nI v - nI (q * V k) ↔ ks_K c W V S k w v q := by
      rw [← Int32.toInt_inj, pk_sub_toInt (by omega) (by omega)]
      exact ⟨fun z => ks_K_of h hU (by omega) z, fun z => ks_K_top hk hq (hC k w (by omega) hw).1 ht hU z⟩
    rw [pk_sub h]
    refine br_f (nI_pos (by omega)) ⟨vp_in_nI (by omega) (by decide), vp_in_nI (by omega) (by decide), ?_⟩
    exact ek_if hiff h1 h0
  · exact br_t (pk_sneg (by omega) (by omega)) (h0 (fun z => h z.1))
theorem ks_bc34 {post : Int32 → SX → Prop} {J : Int32 → Int32 → Int32 → Int32 → Prop} {x3 : Int32} {k w v : Nat} (hc : c ≤ 7) (hk : k < c) (hw : w ≤ 280) (hv : v ≤ 700) (hG : ks_G c aw av au af W V S F)
    (hC : ∀ k w, k ≤ c → w ≤ 280 → ks_Cell c W V S tb wy k w) (ht : (tb (281 * k + w)).toInt = (v : Int))
    (hJ : ∀ p, p ≤ S k → ks_K c W V S k w v p → (∀ q, q < p → ¬ ks_K c W V S k w v q) → wX_bestCode_65 post J (nI w) (nI v) x3 (nI k) (nI p) (nI c) (nI L) aw av au af tb wy st fx pr) :
    ∀ n p, p ≤ S k → S k - p < n → (∀ q, q < p → ¬ ks_K c W V S k w v q) → wX_bestCode_34 post J (nI w) (nI v) x3 (nI k) (nI c) (nI L) aw av au af tb wy st fx pr n (nI p) := by
  obtain ⟨g1, g2, g3, g4, g5, g6, g7, g8, g9, g10⟩ := hG k hk
  intro n
  induction n with
  | zero => intro p _ h; exact absurd h (Nat.not_lt_zero _)
  | succ n ih =>
    intro p h1 h2 hI
    refine ⟨vp_in_nI (by omega) (by decide), ?_⟩
    rw [nI_clamp (show k < 2 ^ 31 by omega), g3]
    refine pk_le (S k) p (fun h => hJ p h1 ?_ hI) (fun h => ?_)
    · obtain ⟨q, q1, q2⟩ := (ks_R_step hk w v).mp (ks_Top_at (hC k w (by omega) hw).1 ht)
      by_cases e : q = p
      · exact e ▸ q2
      · exact absurd q2 (hI q (by omega))
    · refine ks_keeps hc hk hw h1 hG hv hC ht (fun z => br_f (by decide) (hJ p h1 z hI)) (fun z => br_t rfl (nm_r (nI_1 p) (ih (p + 1) (by omega) (by omega) ?_)))
      intro q hq
      by_cases e : q = p
      · exact e ▸ z
      · exact hI q (by omega)
theorem ks_bc22 {post : Int32 → SX → Prop} {b v : Nat} (hc : c ≤ 7) (hb : b ≤ 280) (hv : v ≤ 700) (hG : ks_G c aw av au af W V S F)
    (hC : ∀ k w, k ≤ c → w ≤ 280 → ks_Cell c W V S tb wy k w)
    (hp : ∀ e : Nat → Nat, (ks_Av c S 0 e ∧ ks_dot e W c = b ∧ ks_dot e V c = v) → (∀ k, k < c → ∀ q, q < e k → ¬ ∃ d, (ks_Av c S 0 d ∧ ks_dot d W c = b ∧ ks_dot d V c = v) ∧ (∀ i, i < k → d i = e i) ∧ d k = q) → post (nI (ks_cd e c)) (nI c, nI L, aw, av, au, af, tb, wy, st, fx, pr)) :
    ∀ n k wl vl (e : Nat → Nat), k ≤ c → c - k < n → wl + ks_dot e W k = b → vl + ks_dot e V k = v → (tb (281 * k + wl)).toInt = (vl : Int) → (∀ i, i < k → e i ≤ S i) →
      (∀ k', k' < k → ∀ q, q < e k' → ¬ ∃ d, (ks_Av c S 0 d ∧ ks_dot d W c = b ∧ ks_dot d V c = v) ∧ (∀ i, i < k' → d i = e i) ∧ d k' = q) →
      wX_bestCode_22 post (nI c) (nI L) aw av au af tb wy st fx pr n (nI wl) (nI vl) (nI (ks_cd e k)) (nI k) := by
  intro n
  induction n with
  | zero => intro k wl vl e _ h; exact absurd h (Nat.not_lt_zero _)
  | succ n ih =>
    intro k wl vl e h1 h2 hw hvl ht he hl
    refine pk_le c k (fun h => ?_) (fun h => ⟨S k + 1, ?_⟩)
    · have ek : k = c := by omega
      subst ek
      have hz := (ks_R_end wl vl).mp (ks_Top_at (hC k wl (Nat.le_refl _) (by omega)).1 ht)
      exact hp e ⟨⟨he, fun i hi => absurd hi (Nat.not_lt_zero _)⟩, by omega, by omega⟩ hl
    · obtain ⟨g1, g2, g3, g4, g5, g6, g7, g8, g9, g10⟩ := hG k h
      refine ks_bc34 hc h (by omega) (by omega) hG hC ht (fun p hp1 hK hmin => ?_) (S k + 1) 0 (by omega) (by omega) (fun q hq => absurd hq (Nat.not_lt_zero _))
      have hU := hC (k + 1) (wl - p * W k) (by omega) (by omega)
      have htop := ks_K_top h hp1 (hC k wl (by omega) (by omega)).1 ht hU.1 hK
      obtain ⟨hK1, v', hK2, hK3⟩ := hK
      have ecd : ks_cd (ks_up e k p) (k + 1) = 3 * ks_cd e k + p := by
        rw [ks_cd_s, ks_up_s, ks_cd_congr k (fun i hi => ks_up_n (by omega))]
      have edw : ∀ X : Nat → Nat, ks_dot (ks_up e k p) X (k + 1) = ks_dot e X k + p * X k := by
        intro X
        rw [ks_dot_s, ks_up_s, ks_dot_congr k (fun i hi => ks_up_n (by omega))]
      unfold wX_bestCode_65
      rw [nI_clamp (show k < 2 ^ 31 by omega), g1, g2, pk_mul p (W k), pk_mul p (V k)]
      refine nm_r (e' := nI (ks_cd (ks_up e k p) (k + 1))) ?_ ⟨vp_in_nI (by omega) (by decide), nm_r (pk_sub hK1) ⟨vp_in_nI (by omega) (by decide), nm_r (pk_sub (by omega)) (nm_r (nI_1 k) ?_)⟩⟩
      · rw [ecd, ← nI_add, ← pk_mul]; rfl
      · refine ih (k + 1) (wl - p * W k) (vl - p * V k) (ks_up e k p) (by omega) (by omega) (by rw [edw]; omega) (by rw [edw]; omega) (by omega) ?_ ?_
        · intro i hi
          by_cases ei : i = k
          · rw [ei, ks_up_s]; exact hp1
          · rw [ks_up_n ei]; exact he i (by omega)
        · intro k' hk' q hq
          by_cases ei : k' = k
          · subst ei
            rw [ks_up_s] at hq
            intro ⟨d, ⟨d1, d2, d3⟩, d4, d5⟩
            exact hmin q hq (ks_K_opt h hw hvl d1 d2 d3 (fun i hi => by rw [d4 i hi, ks_up_n (by omega)]) d5)
          · rw [ks_up_n ei] at hq
            intro ⟨d, dO, d4, d5⟩
            exact hl k' (by omega) q hq ⟨d, dO, fun i hi => by rw [d4 i hi, ks_up_n (by omega)], d5⟩
theorem ks_xbestCode {post : Int32 → SX → Prop} (hc : c ≤ 7) (hL : L ≤ 60) (hG : ks_G c aw av au af W V S F)
    (hp : ∀ r tb wy, ks_Best c W V L (ks_Av c S 0) r → post (nI r) (nI c, nI L, aw, av, au, af, tb, wy, st, fx, pr)) : wpX_bestCode post (nI c, nI L, aw, av, au, af, tb, wy, st, fx, pr) := by
  have hV : ∀ i, i < c → V i ≤ 50 := fun i hi => (hG i hi).2.2.2.2.2.2.1
  have hS : ∀ i, i < c → S i ≤ 2 := fun i hi => (hG i hi).2.2.2.2.2.2.2.2.1
  unfold wpX_bestCode
  dsimp only
  refine ks_fill1 hc hG (fun tb wy hC => ?_)
  dsimp only
  have hR := ks_row0 hC
  refine ks_bw hL (fun b hb => ?_)
  rw [nI_clamp (show b < 2 ^ 31 by have := hb.1; omega)]
  have hT : ∀ w, w ≤ L → ks_Top (ks_R c W V (ks_Av c S 0) w) (tb w).toInt := fun w hw => (hR w (by omega)).1
  have h00 := ks_Top_ge (hT 0 (by omega)) (v := 0) ⟨fun _ => 0, ⟨fun _ _ => Nat.zero_le _, fun _ _ => rfl⟩, ks_dot_zero c (fun _ _ => rfl), ks_dot_zero c (fun _ _ => rfl)⟩
  have h01 : (tb 0).toInt ≤ (tb b).toInt := (hb.2 0 (by omega)).1
  obtain ⟨v, v1, v2, v3⟩ := ks_Top_pos (hT b hb.1) (by omega)
  have hv7 := ks_Rb hc (ks_AC_v hS).2 hV v2
  have ev : tb b = nI v := Int32.toInt_inj.mp (by rw [nI_toInt (by omega)]; exact v1)
  refine ⟨vp_in_nI (by have := hb.1; omega) (by decide), nm_r ev ⟨c + 1, ?_⟩⟩
  refine ks_bc22 (b := b) (v := v) hc (by have := hb.1; omega) hv7 hG hC (fun e hO hl => ?_) (c + 1) 0 b v (fun _ => 0) (by omega) (by omega) rfl rfl (by rw [Nat.mul_zero, Nat.zero_add]; exact v1) (fun i hi => absurd hi (Nat.not_lt_zero _)) (fun k' hk' => absurd hk' (Nat.not_lt_zero _))
  exact hp _ _ _ (ks_best_code (T := fun w => (tb w).toInt) (ks_AC_v hS) hT hb v1 hO hl)
/-- strict choices -/
def ks_B (c : Nat) (S F : Nat → Nat) (d : Nat → Nat) : Prop := (∀ i, i < c → d i ≤ S i) ∧ ks_St c F d
theorem ks_AC_b {c : Nat} {S F : Nat → Nat} (hS : ∀ i, i < c → S i ≤ 2) : ks_AC c (ks_B c S F) :=
  ⟨fun d e h hd => ⟨fun i hi => by rw [← h i hi]; exact hd.1 i hi, fun i j hi hj a b => hd.2 i j hi hj (by rw [h i hi]; exact a) (by rw [h j (by omega)]; exact b)⟩, fun d hd i hi => Nat.le_trans (hd.1 i hi) (hS i hi)⟩
theorem ks_As_open {φ : Nat → Int} (h : ∀ i, i < c → φ i < 0) : ks_As c S F φ 0 = ks_B c S F := by
  funext d
  exact propext ⟨fun a => ⟨a.1, a.2.2.2⟩, fun a => ⟨a.1, fun i _ z => absurd z (Nat.not_lt_zero _), fun i hi _ => Or.inl (h i hi), a.2⟩⟩
/-- some optimal strict choice agrees with e below k and takes q of k -/
def ks_Q (c : Nat) (W V S F : Nat → Nat) (b v : Nat) (e : Nat → Nat) (k q : Nat) : Prop := ∃ d, (ks_B c S F d ∧ ks_dot d W c = b ∧ ks_dot d V c = v) ∧ (∀ i, i < k → d i = e i) ∧ d k = q
theorem ks_Q_iff {b v k p : Nat} {e : Nat → Nat} {st : Nat → Int32} (hc : c ≤ 7) (hk : k < c) (hp : p ≤ 2) (he : ∀ i, i < k → e i ≤ 2) (hlo : ∀ i, i < k → fx i = nI (e i)) (hhi : ∀ i, k < i → i < 7 → fx i = -1)
    (hmax : ∀ v', ks_R c W V (ks_B c S F) b v' → v' ≤ v)
    (hT : ks_Top (ks_R c W V (ks_As c S F (fun i => (upd fx k (nI p) i).toInt) 0) b) (st b).toInt) : (st b).toInt = (v : Int) ↔ ks_Q c W V S F b v e k p := by
  have hA : ∀ d, ks_As c S F (fun i => (upd fx k (nI p) i).toInt) 0 d ↔ (ks_B c S F d ∧ (∀ i, i < k → d i = e i) ∧ d k = p) := by
    intro d
    constructor
    · intro ⟨a1, a2, a3, a4⟩
      refine ⟨⟨a1, a4⟩, fun i hi => ?_, ?_⟩
      · have z := a3 i (by omega) (Nat.zero_le _)
        dsimp only at z
        have := he i hi
        rw [pk_un (show i ≠ k by omega), hlo i hi, nI_toInt (by omega)] at z
        omega
      · have z := a3 k hk (Nat.zero_le _)
        dsimp only at z
        rw [pk_us, nI_toInt (by omega)] at z
        omega
    · intro ⟨⟨a1, a4⟩, a5, a6⟩
      refine ⟨a1, fun i _ z => absurd z (Nat.not_lt_zero _), fun i hi _ => ?_, a4⟩
      show (upd fx k (nI p) i).toInt < 0 ∨ (upd fx k (nI p) i).toInt = (d i : Int)
      by_cases e1 : i = k
      · subst e1
        rw [pk_us, nI_toInt (by omega), a6]
        exact Or.inr rfl
      · rw [pk_un e1]
        by_cases e2 : i < k
        · have := he i e2
          rw [hlo i e2, nI_toInt (by omega), a5 i e2]
          exact Or.inr rfl
        · rw [hhi i (by omega) (by omega)]
          exact Or.inl (by decide)
  constructor
  · intro h
    obtain ⟨d, d1, d2, d3⟩ := ks_Top_at hT h
    obtain ⟨a1, a2, a3⟩ := (hA d).mp d1
    exact ⟨d, ⟨a1, d2, d3⟩, a2, a3⟩
  · intro ⟨d, ⟨a1, d2, d3⟩, a2, a3⟩
    have z := ks_Top_ge hT ⟨d, (hA d).mpr ⟨a1, a2, a3⟩, d2, d3⟩
    obtain ⟨y, y1, ⟨d', y2, y3, y4⟩, _⟩ := ks_Top_pos hT (by omega)
    have := hmax y ⟨d', ((hA d').mp y2).1, y3, y4⟩
    omega
theorem ks_bs37 {post : Int32 → SX → Prop} {J : Int32 → Int32 → Int32 → Int32 → (Nat → Int32) → (Nat → Int32) → (Nat → Int32) → (Nat → Int32) → (Nat → Int32) → (Nat → Int32) → (Nat → Int32) → (Nat → Int32) → (Nat → Int32) → Prop} {x3 : Int32} {b v k : Nat} {e : Nat → Nat} (hc : c ≤ 7) (hk : k < c) (hb : b ≤ 60) (hv : v ≤ 700) (hG : ks_G c aw av au af W V S F) (he : ∀ i, i < k → e i ≤ 2)
    (hmax : ∀ v', ks_R c W V (ks_B c S F) b v' → v' ≤ v)
    (hex : ∃ d, (ks_B c S F d ∧ ks_dot d W c = b ∧ ks_dot d V c = v) ∧ ∀ i, i < k → d i = e i)
    (hJ : ∀ p st fx, p ≤ S k → ks_Q c W V S F b v e k p → (∀ q, q < p → ¬ ks_Q c W V S F b v e k q) → (∀ i, i < k → fx i = nI (e i)) → (∀ i, k < i → i < 7 → fx i = -1) → wX_bestStrictCode_81 post J (nI b) (nI v) x3 (nI k) (nI p) (nI c) (nI L) aw av au af tb wy st fx pr) :
    ∀ n p st fx, p ≤ S k → S k - p < n → (∀ q, q < p → ¬ ks_Q c W V S F b v e k q) → (∀ i, i < k → fx i = nI (e i)) → (∀ i, k < i → i < 7 → fx i = -1) → wX_bestStrictCode_37 post J (nI b) (nI v) x3 (nI k) n (nI p) (nI c) (nI L) aw av au af tb wy st fx pr := by
  obtain ⟨g1, g2, g3, g4, g5, g6, g7, g8, g9, g10⟩ := hG k hk
  intro n
  induction n with
  | zero => intro p st fx _ h; exact absurd h (Nat.not_lt_zero _)
  | succ n ih =>
    intro p st fx h1 h2 hI hlo hhi
    refine ⟨vp_in_nI (by omega) (by decide), ?_⟩
    rw [nI_clamp (show k < 2 ^ 31 by omega), g3]
    refine pk_le (S k) p (fun h => hJ p st fx h1 ?_ hI hlo hhi) (fun h => ⟨vp_in_nI (by omega) (by decide), nm_e ?_⟩)
    · obtain ⟨d, dO, dk⟩ := hex
      have hd := dO.1.1 k hk
      by_cases e1 : d k = p
      · exact ⟨d, dO, dk, e1⟩
      · exact absurd ⟨d, dO, dk, rfl⟩ (hI (d k) (by omega))
    · have hlo' : ∀ i, i < k → upd fx k (nI p) i = nI (e i) := fun i hi => by rw [pk_un (by omega)]; exact hlo i hi
      have hhi' : ∀ i, k < i → i < 7 → upd fx k (nI p) i = -1 := fun i hi h7 => by rw [pk_un (by omega)]; exact hhi i hi h7
      refine ks_fillStrict hc hG (fun st' hC => ?_)
      dsimp only
      rw [nI_clamp (show b < 2 ^ 31 by omega)]
      have hq := ks_Q_iff hc hk (by omega) he hlo hhi hmax (ks_row0s hC b (by omega))
      have hq2 : st' b = nI v ↔ ks_Q c W V S F b v e k p := by
        rw [← Int32.toInt_inj, nI_toInt (by omega)]
        exact hq
      refine ⟨vp_in_nI (by omega) (by decide), ek_if hq2 (fun z => hJ p st' _ h1 z hI hlo' hhi') (fun z => nm_r (nI_1 p) (ih (p + 1) st' _ (by omega) (by omega) ?_ hlo' hhi'))⟩
      intro q hq3
      by_cases e1 : q = p
      · exact e1 ▸ z
      · exact hI q (by omega)
theorem ks_bs25 {post : Int32 → SX → Prop} {b v : Nat} (hc : c ≤ 7) (hb : b ≤ 60) (hv : v ≤ 700) (hG : ks_G c aw av au af W V S F)
    (hmax : ∀ v', ks_R c W V (ks_B c S F) b v' → v' ≤ v)
    (hp : ∀ (e : Nat → Nat) st fx, (ks_B c S F e ∧ ks_dot e W c = b ∧ ks_dot e V c = v) → (∀ k, k < c → ∀ q, q < e k → ¬ ks_Q c W V S F b v e k q) → post (nI (ks_cd e c)) (nI c, nI L, aw, av, au, af, tb, wy, st, fx, pr)) :
    ∀ n k (e : Nat → Nat) st fx, k ≤ c → c - k < n → (∀ i, i < k → e i ≤ S i) → (∃ d, (ks_B c S F d ∧ ks_dot d W c = b ∧ ks_dot d V c = v) ∧ ∀ i, i < k → d i = e i) →
      (∀ k', k' < k → ∀ q, q < e k' → ¬ ks_Q c W V S F b v e k' q) → (∀ i, i < k → fx i = nI (e i)) → (∀ i, k ≤ i → i < 7 → fx i = -1) →
      wX_bestStrictCode_25 post (nI b) (nI v) n (nI (ks_cd e k)) (nI k) (nI c) (nI L) aw av au af tb wy st fx pr := by
  have hS : ∀ i, i < c → S i ≤ 2 := fun i hi => (hG i hi).2.2.2.2.2.2.2.2.1
  intro n
  induction n with
  | zero => intro k e st fx _ h; exact absurd h (Nat.not_lt_zero _)
  | succ n ih =>
    intro k e st fx h1 h2 he hex hl hlo hhi
    refine pk_le c k (fun h => ?_) (fun h => ⟨S k + 1, ?_⟩)
    · have ek : k = c := by omega
      subst ek
      obtain ⟨d, ⟨d1, d2, d3⟩, d4⟩ := hex
      exact hp e st fx ⟨(ks_AC_b hS).1 d e d4 d1, by rw [← ks_dot_congr k d4]; exact d2, by rw [← ks_dot_congr k d4]; exact d3⟩ hl
    · refine ks_bs37 hc h hb hv hG (fun i hi => Nat.le_trans (he i hi) (hS i (by omega))) hmax hex (fun p st' fx' hp1 hQ hmin hlo' hhi' => ?_) (S k + 1) 0 st fx (by omega) (by omega) (fun q hq => absurd hq (Nat.not_lt_zero _)) hlo (fun i hi => hhi i (by omega))
      have ecd : ks_cd (ks_up e k p) (k + 1) = 3 * ks_cd e k + p := by
        rw [ks_cd_s, ks_up_s, ks_cd_congr k (fun i hi => ks_up_n (by omega))]
      unfold wX_bestStrictCode_81
      rw [nI_clamp (show k < 2 ^ 31 by omega)]
      refine ⟨vp_in_nI (by omega) (by decide), nm_e (nm_r (e' := nI (ks_cd (ks_up e k p) (k + 1))) ?_ (nm_r (nI_1 k) ?_))⟩
      · rw [ecd, ← nI_add, ← pk_mul]; rfl
      · refine ih (k + 1) (ks_up e k p) st' _ (by omega) (by omega) ?_ ?_ ?_ ?_ ?_
        · intro i hi
          by_cases ei : i = k
          · rw [ei, ks_up_s]; exact hp1
          · rw [ks_up_n ei]; exact he i (by omega)
        · obtain ⟨d, dO, d4, d5⟩ := hQ
          refine ⟨d, dO, fun i hi => ?_⟩
          by_cases ei : i = k
          · rw [ei, ks_up_s]; exact d5
          · rw [ks_up_n ei]; exact d4 i (by omega)
        · intro k' hk' q hq
          by_cases ei : k' = k
          · subst ei
            rw [ks_up_s] at hq
            intro ⟨d, dO, d4, d5⟩
            exact hmin q hq ⟨d, dO, fun i hi => by rw [d4 i hi, ks_up_n (by omega)], d5⟩
          · rw [ks_up_n ei] at hq
            intro ⟨d, dO, d4, d5⟩
            exact hl k' (by omega) q hq ⟨d, dO, fun i hi => by rw [d4 i hi, ks_up_n (by omega)], d5⟩
        · intro i hi
          by_cases ei : i = k
          · subst ei; rw [pk_us, ks_up_s]
          · rw [pk_un ei, ks_up_n ei]; exact hlo' i (by omega)
        · intro i hi h7
          rw [pk_un (by omega)]; exact hhi' i (by omega) h7
theorem ks_xbestStrictCode {post : Int32 → SX → Prop} (hc : c ≤ 7) (hL : L ≤ 60) (hG : ks_G c aw av au af W V S F)
    (hp : ∀ r st fx, ks_Best c W V L (ks_B c S F) r → post (nI r) (nI c, nI L, aw, av, au, af, tb, wy, st, fx, pr)) : wpX_bestStrictCode post (nI c, nI L, aw, av, au, af, tb, wy, st, fx, pr) := by
  have hV : ∀ i, i < c → V i ≤ 50 := fun i hi => (hG i hi).2.2.2.2.2.2.1
  have hS : ∀ i, i < c → S i ≤ 2 := fun i hi => (hG i hi).2.2.2.2.2.2.2.2.1
  unfold wpX_bestStrictCode
  dsimp only
  refine ks_openAll (fun fx hfx => ?_)
  dsimp only
  refine ks_fillStrict hc hG (fun st hC => ?_)
  dsimp only
  have hR := ks_row0s hC
  rw [ks_As_open (fun i hi => by rw [hfx i (by omega)]; decide)] at hR
  refine ks_sw hL (fun b hb => ?_)
  rw [nI_clamp (show b < 2 ^ 31 by have := hb.1; omega)]
  have hT : ∀ w, w ≤ L → ks_Top (ks_R c W V (ks_B c S F) w) (st w).toInt := fun w hw => hR w (by omega)
  have h00 := ks_Top_ge (hT 0 (by omega)) (v := 0) ⟨fun _ => 0, ⟨fun _ _ => Nat.zero_le _, fun i j _ _ z => absurd z (Nat.lt_irrefl _)⟩, ks_dot_zero c (fun _ _ => rfl), ks_dot_zero c (fun _ _ => rfl)⟩
  have h01 : (st 0).toInt ≤ (st b).toInt := (hb.2 0 (by omega)).1
  obtain ⟨v, v1, v2, v3⟩ := ks_Top_pos (hT b hb.1) (by omega)
  have hv7 := ks_Rb hc (ks_AC_b hS).2 hV v2
  have ev : st b = nI v := Int32.toInt_inj.mp (by rw [nI_toInt (by omega)]; exact v1)
  refine ⟨vp_in_nI (by have := hb.1; omega) (by decide), nm_r ev ⟨c + 1, ?_⟩⟩
  obtain ⟨d, dd⟩ := v2
  refine ks_bs25 (b := b) (v := v) hc (by have := hb.1; omega) hv7 hG v3 (fun e st' fx' hO hl => ?_) (c + 1) 0 (fun _ => 0) st fx (by omega) (by omega) (fun i hi => absurd hi (Nat.not_lt_zero _)) ⟨d, dd, fun i hi => absurd hi (Nat.not_lt_zero _)⟩ (fun k' hk' => absurd hk' (Nat.not_lt_zero _)) (fun i hi => absurd hi (Nat.not_lt_zero _)) (fun i _ h7 => hfx i h7)
  exact hp _ _ _ (ks_best_code (T := fun w => (st w).toInt) (ks_AC_b hS) hT hb v1 hO hl)
end
end
section
/-! X: the remaining methods that only read the goods -/
theorem ks_toInt_nI {x : Int32} {v : Nat} (hv : v < 2 ^ 31) (h : x.toInt = (v : Int)) : x = nI v := Int32.toInt_inj.mp (by rw [nI_toInt hv]; exact h)
/-- S with nothing of o -/
def ks_So (S : Nat → Nat) (o : Nat) : Nat → Nat := ks_up S o 0
section
variable {c L : Nat} {aw av au af tb wy st fx pr : Nat → Int32} {W V S F : Nat → Nat}
theorem ks_ld15 {post : Int32 → SX → Prop} (hc : c ≤ 7) (hG : ks_G c aw av au af W V S F) :
    ∀ j n r fx, j ≤ c → j < n → r < 2 ^ 31 →
      ((∀ i, i < j → ks_d j r i ≤ S i) → ks_q j r = 0 → ∀ fx', (∀ i, i < j → fx' i = nI (ks_d j r i)) → (∀ i, j ≤ i → fx' i = fx i) → post 1 (nI c, nI L, aw, av, au, af, tb, wy, st, fx', pr)) →
      (¬ ((∀ i, i < j → ks_d j r i ≤ S i) ∧ ks_q j r = 0) → ∀ fx, post 0 (nI c, nI L, aw, av, au, af, tb, wy, st, fx, pr)) →
      wX_load_15 post (nI c) (nI L) n (nI r) (nI j + (-1)) aw av au af tb wy st fx pr := by
  intro j
  induction j with
  | zero =>
    intro n r fx _ hn hr h1 h0
    obtain ⟨n, rfl⟩ : ∃ m, n = m + 1 := ⟨n - 1, by omega⟩
    refine br_t ks_neg1 (pk_eq r 0 (fun e => ?_) (fun e => ?_))
    · exact h1 (fun i hi => absurd hi (Nat.not_lt_zero _)) e fx (fun i hi => absurd hi (Nat.not_lt_zero _)) (fun i _ => rfl)
    · exact h0 (fun z => e z.2) _
  | succ j ih =>
    intro n r fx hj hn hr h1 h0
    obtain ⟨n, rfl⟩ : ∃ m, n = m + 1 := ⟨n - 1, by omega⟩
    rw [pk_m1]
    obtain ⟨g1, g2, g3, g4, g5, g6, g7, g8, g9, g10⟩ := hG j (by omega)
    refine br_f (nI_pos (by omega)) ⟨by decide, vp_in_nI (by omega) (by decide), ?_⟩
    rw [nI_clamp (show j < 2 ^ 31 by omega), g3]
    refine nm_r (e' := upd fx j (nI (r % 3))) ?_ ⟨by decide, nm_r (pk_div (a := r) (d := 3) hr (by decide) (by decide)) ⟨vp_in_nI (by omega) (by decide), vp_in_nI (by omega) (by decide), ?_⟩⟩
    · exact congrArg (upd fx j) (pk_rem (a := r) (d := 3) hr (by decide) (by decide))
    · rw [pk_us]
      refine pk_le (r % 3) (S j) (fun h => nm_e ?_) (fun h => ?_)
      · refine ih n (r / 3) (upd fx j (nI (r % 3))) (by omega) (by omega) (by omega) ?_ ?_
        · intro k1 k2 fx' k3 k4
          refine h1 ((ks_dv_s j r).mpr ⟨h, k1⟩) k2 fx' (fun i hi => ?_) (fun i hi => ?_)
          · by_cases e : i = j
            · subst e; rw [k4 i (Nat.le_refl _), pk_us, ks_d_n]
            · rw [k3 i (by omega), ks_d_lt e]
          · rw [k4 i (by omega), pk_un (by omega)]
        · intro k
          exact h0 (fun z => k ⟨((ks_dv_s j r).mp z.1).2, z.2⟩)
      · exact h0 (fun z => absurd ((ks_dv_s j r).mp z.1).1 (by omega)) _
theorem ks_load {post : Int32 → SX → Prop} {r : Nat} (hc : c ≤ 7) (hG : ks_G c aw av au af W V S F) (hr : r < 2 ^ 31)
    (h1 : (∀ i, i < c → ks_d c r i ≤ S i) → r < 3 ^ c → ∀ fx, (∀ i, i < c → fx i = nI (ks_d c r i)) → post 1 (nI c, nI L, aw, av, au, af, tb, wy, st, fx, pr))
    (h0 : ¬ ((∀ i, i < c → ks_d c r i ≤ S i) ∧ r < 3 ^ c) → ∀ fx, post 0 (nI c, nI L, aw, av, au, af, tb, wy, st, fx, pr)) : wpX_load post (nI c, nI L, aw, av, au, af, tb, wy, st, fx, pr) (nI r) := by
  refine br_t (nI_pos' hr) (nm_r (ks_sub1 c) ⟨c + 1, ?_⟩)
  refine ks_ld15 hc hG c (c + 1) r fx (Nat.le_refl _) (by omega) hr ?_ ?_
  · intro k1 k2 fx' k3 _
    exact h1 k1 ((ks_q_0 c r).mp k2) fx' k3
  · intro k
    exact h0 (fun z => k ⟨z.1, (ks_q_0 c r).mpr z.2⟩)
theorem ks_wo14 {post : Int32 → SX → Prop} {d : Nat → Nat} (hc : c ≤ 7) (hG : ks_G c aw av au af W V S F) (hfx : ∀ i, i < c → fx i = nI (d i))
    (hp : post (nI (ks_dot d W c)) (nI c, nI L, aw, av, au, af, tb, wy, st, fx, pr)) : ∀ n k, k ≤ c → c - k < n → wX_weightOf_14 post (nI c) (nI L) aw av au af tb wy st fx pr n (nI (ks_dot d W k)) (nI k) := by
  intro n
  induction n with
  | zero => intro k _ h; exact absurd h (Nat.not_lt_zero _)
  | succ n ih =>
    intro k h1 h2
    refine pk_le c k (fun h => ?_) (fun h => ⟨vp_in_nI (by omega) (by decide), vp_in_nI (by omega) (by decide), ?_⟩)
    · have e : k = c := by omega
      subst e; exact hp
    · rw [nI_clamp (show k < 2 ^ 31 by omega), hfx k h, (hG k h).1, pk_mul]
      exact nm_r (nI_add _ _) (nm_r (nI_1 k) (ih (k + 1) (by omega) (by omega)))
theorem ks_vo14 {post : Int32 → SX → Prop} {d : Nat → Nat} (hc : c ≤ 7) (hG : ks_G c aw av au af W V S F) (hfx : ∀ i, i < c → fx i = nI (d i))
    (hp : post (nI (ks_dot d V c)) (nI c, nI L, aw, av, au, af, tb, wy, st, fx, pr)) : ∀ n k, k ≤ c → c - k < n → wX_valueOf_14 post (nI c) (nI L) aw av au af tb wy st fx pr n (nI (ks_dot d V k)) (nI k) := by
  intro n
  induction n with
  | zero => intro k _ h; exact absurd h (Nat.not_lt_zero _)
  | succ n ih =>
    intro k h1 h2
    refine pk_le c k (fun h => ?_) (fun h => ⟨vp_in_nI (by omega) (by decide), vp_in_nI (by omega) (by decide), ?_⟩)
    · have e : k = c := by omega
      subst e; exact hp
    · rw [nI_clamp (show k < 2 ^ 31 by omega), hfx k h, (hG k h).2.1, pk_mul]
      exact nm_r (nI_add _ _) (nm_r (nI_1 k) (ih (k + 1) (by omega) (by omega)))
theorem ks_xweightOf {post : Int32 → SX → Prop} {r : Nat} (hc : c ≤ 7) (hG : ks_G c aw av au af W V S F) (hr : r < 2 ^ 31)
    (h1 : (∀ i, i < c → ks_d c r i ≤ S i) → r < 3 ^ c → ∀ fx, post (nI (ks_dot (ks_d c r) W c)) (nI c, nI L, aw, av, au, af, tb, wy, st, fx, pr))
    (h0 : ¬ ((∀ i, i < c → ks_d c r i ≤ S i) ∧ r < 3 ^ c) → ∀ fx, post (-1) (nI c, nI L, aw, av, au, af, tb, wy, st, fx, pr)) : wpX_weightOf post (nI c, nI L, aw, av, au, af, tb, wy, st, fx, pr) (nI r) := by
  unfold wpX_weightOf
  dsimp only
  refine ks_load hc hG hr (fun a b fx hfx => br_f (by decide) ⟨c + 1, ?_⟩) (fun a fx => br_t rfl (h0 a fx))
  exact ks_wo14 hc hG hfx (h1 a b fx) (c + 1) 0 (by omega) (by omega)
theorem ks_xvalueOf {post : Int32 → SX → Prop} {r : Nat} (hc : c ≤ 7) (hG : ks_G c aw av au af W V S F) (hr : r < 2 ^ 31)
    (h1 : (∀ i, i < c → ks_d c r i ≤ S i) → r < 3 ^ c → ∀ fx, post (nI (ks_dot (ks_d c r) V c)) (nI c, nI L, aw, av, au, af, tb, wy, st, fx, pr))
    (h0 : ¬ ((∀ i, i < c → ks_d c r i ≤ S i) ∧ r < 3 ^ c) → ∀ fx, post (-1) (nI c, nI L, aw, av, au, af, tb, wy, st, fx, pr)) : wpX_valueOf post (nI c, nI L, aw, av, au, af, tb, wy, st, fx, pr) (nI r) := by
  unfold wpX_valueOf
  dsimp only
  refine ks_load hc hG hr (fun a b fx hfx => br_f (by decide) ⟨c + 1, ?_⟩) (fun a fx => br_t rfl (h0 a fx))
  exact ks_vo14 hc hG hfx (h1 a b fx) (c + 1) 0 (by omega) (by omega)
/-- from the table's row 0 and its best weight: the value of the best choice -/
theorem ks_bestv {A : (Nat → Nat) → Prop} {b : Nat} (hc : c ≤ 7) (hA : ks_AC c A) (hV : ∀ i, i < c → V i ≤ 50) (hT : ∀ w, w ≤ L → ks_Top (ks_R c W V A w) (tb w).toInt) (hb : ks_BW (fun w => (tb w).toInt) L b) {r : Nat} (h : ks_Best c W V L A r) : tb b = nI (ks_dot (ks_d c r) V c) := by
  have a := ks_best_val (T := fun w => (tb w).toInt) hA hT hb h
  have b4 := ks_vb hc (fun i _ => ks_d_le c r i) hV
  exact ks_toInt_nI (by omega) a.1
theorem ks_xbest {post : Int32 → SX → Prop} (hc : c ≤ 7) (hL : L ≤ 60) (hG : ks_G c aw av au af W V S F)
    (hp : ∀ x tb wy, (∀ r, ks_Best c W V L (ks_Av c S 0) r → x = nI (ks_dot (ks_d c r) V c)) → post x (nI c, nI L, aw, av, au, af, tb, wy, st, fx, pr)) : wpX_best post (nI c, nI L, aw, av, au, af, tb, wy, st, fx, pr) := by
  have hV : ∀ i, i < c → V i ≤ 50 := fun i hi => (hG i hi).2.2.2.2.2.2.1
  have hS : ∀ i, i < c → S i ≤ 2 := fun i hi => (hG i hi).2.2.2.2.2.2.2.2.1
  unfold wpX_best
  dsimp only
  refine ks_fill1 hc hG (fun tb wy hC => ?_)
  dsimp only
  refine ks_bw hL (fun b hb => ⟨vp_in_nI (by have := hb.1; omega) (by decide), ?_⟩)
  rw [nI_clamp (show b < 2 ^ 31 by have := hb.1; omega)]
  exact hp _ _ _ (fun r hr => ks_bestv hc (ks_AC_v hS) hV (fun w hw => (ks_row0 hC w (by omega)).1) hb hr)
theorem ks_xwithout {post : Int32 → SX → Prop} {o : Nat} (hc : c ≤ 7) (hL : L ≤ 60) (ho : o < c) (hG : ks_G c aw av au af W V S F)
    (hp : ∀ x tb wy, (∀ r, ks_Best c W V L (ks_Av c (ks_So S o) 0) r → x = nI (ks_dot (ks_d c r) V c)) → post x (nI c, nI L, aw, av, au, af, tb, wy, st, fx, pr)) : wpX_without post (nI c, nI L, aw, av, au, af, tb, wy, st, fx, pr) (nI o) := by
  have hV : ∀ i, i < c → V i ≤ 50 := fun i hi => (hG i hi).2.2.2.2.2.2.1
  have hS : ∀ i, i < c → ks_So S o i ≤ 2 := by
    intro i hi
    unfold ks_So
    by_cases e : i = o
    · rw [e, ks_up_s]; omega
    · rw [ks_up_n e]; exact (hG i hi).2.2.2.2.2.2.2.2.1
  unfold wpX_without
  dsimp only
  refine br_f (nI_pos (by omega)) (br_f (nI_ge ho (by omega)) (br_f (by decide) ?_))
  refine ks_fill (S' := ks_So S o) hc hG (fun k hk => ⟨fun h => ?_, fun h => ?_⟩) (fun tb wy hC => ?_)
  · rw [nI_eq (by omega) (by omega)] at h
    rw [← h]; exact ks_up_s
  · exact ks_up_n (fun z => h (by rw [z]))
  dsimp only
  refine ks_bw hL (fun b hb => ⟨vp_in_nI (by have := hb.1; omega) (by decide), ?_⟩)
  rw [nI_clamp (show b < 2 ^ 31 by have := hb.1; omega)]
  exact hp _ _ _ (fun r hr => ks_bestv hc (ks_AC_v hS) hV (fun w hw => (ks_row0 hC w (by omega)).1) hb hr)
theorem ks_xbestStrict {post : Int32 → SX → Prop} (hc : c ≤ 7) (hL : L ≤ 60) (hG : ks_G c aw av au af W V S F)
    (hp : ∀ x st fx, (∀ r, ks_Best c W V L (ks_B c S F) r → x = nI (ks_dot (ks_d c r) V c)) → post x (nI c, nI L, aw, av, au, af, tb, wy, st, fx, pr)) : wpX_bestStrict post (nI c, nI L, aw, av, au, af, tb, wy, st, fx, pr) := by
  have hV : ∀ i, i < c → V i ≤ 50 := fun i hi => (hG i hi).2.2.2.2.2.2.1
  have hS : ∀ i, i < c → S i ≤ 2 := fun i hi => (hG i hi).2.2.2.2.2.2.2.2.1
  unfold wpX_bestStrict
  dsimp only
  refine ks_openAll (fun fx hfx => ?_)
  dsimp only
  refine ks_fillStrict hc hG (fun st hC => ?_)
  dsimp only
  have hR := ks_row0s hC
  rw [ks_As_open (fun i hi => by rw [hfx i (by omega)]; decide)] at hR
  refine ks_sw hL (fun b hb => ⟨vp_in_nI (by have := hb.1; omega) (by decide), ?_⟩)
  rw [nI_clamp (show b < 2 ^ 31 by have := hb.1; omega)]
  exact hp _ _ _ (fun r hr => ks_bestv hc (ks_AC_b hS) hV (fun w hw => hR w (by omega)) hb hr)
/-- how the counts read -/
theorem ks_cnt_pw {w : Nat} (hS : ∀ i, i < c → S i ≤ 2) : ks_cnt W S c 0 w = ks_nc (ks_pw W S 0 c w) (3 ^ c) := (ks_cnt_nc c 0 w (fun i _ hi => hS i (by omega))).symm
theorem ks_pw_iff {w s : Nat} : ks_pw W S 0 c w s = true ↔ (∀ i, i < c → ks_d c s i ≤ S i) ∧ ks_dot (ks_d c s) W c = w := by
  unfold ks_pw
  rw [Bool.and_eq_true, decide_eq_true_iff, ks_ok_d, ks_wt_d]
def ks_pl (W S : Nat → Nat) (c n : Nat) : Nat → Bool := fun r => ks_ok S 0 c r && decide (ks_wt W 0 c r < n)
theorem ks_pl_iff {n s : Nat} : ks_pl W S c n s = true ↔ (∀ i, i < c → ks_d c s i ≤ S i) ∧ ks_dot (ks_d c s) W c < n := by
  unfold ks_pl
  rw [Bool.and_eq_true, decide_eq_true_iff, ks_ok_d, ks_wt_d]
theorem ks_pl_sum (hS : ∀ i, i < c → S i ≤ 2) : ∀ n, ks_sm (fun w => ks_cnt W S c 0 w) n = ks_nc (ks_pl W S c n) (3 ^ c)
  | 0 => by
    refine (ks_nc_no _ (fun i _ => ?_)).symm
    unfold ks_pl
    rw [decide_eq_false (Nat.not_lt_zero _), Bool.and_false]
  | n + 1 => by
    rw [ks_sm_s, ks_pl_sum hS n, ks_cnt_pw hS]
    refine (ks_nc_or _ (fun i _ => ?_)).symm
    unfold ks_pl ks_pw
    cases ks_ok S 0 c i with
    | false => rfl
    | true =>
      rw [Bool.true_and, Bool.true_and, Bool.true_and]
      generalize ks_wt W 0 c i = x
      by_cases h1 : x < n
      · rw [decide_eq_true h1, decide_eq_true (show x < n + 1 by omega), decide_eq_false (show ¬ x = n by omega)]; rfl
      · by_cases h2 : x = n
        · rw [decide_eq_false h1, decide_eq_true (show x < n + 1 by omega), decide_eq_true h2]; rfl
        · rw [decide_eq_false h1, decide_eq_false (show ¬ x < n + 1 by omega), decide_eq_false h2]; rfl
theorem ks_fi9 {post : Int32 → SX → Prop} (hL : L ≤ 60) (hw : ∀ w, w ≤ 280 → wy w = nI (ks_cnt W S c 0 w)) (hp : post (nI (ks_sm (fun w => ks_cnt W S c 0 w) (L + 1))) (nI c, nI L, aw, av, au, af, tb, wy, st, fx, pr)) :
    ∀ n w, w ≤ L + 1 → L + 1 - w < n → wX_fitting_9 post (nI c) (nI L) aw av au af tb wy st fx pr n (nI (ks_sm (fun w => ks_cnt W S c 0 w) w)) (nI w) := by
  intro n
  induction n with
  | zero => intro w _ h; exact absurd h (Nat.not_lt_zero _)
  | succ n ih =>
    intro w h1 h2
    refine pk_lt L w (fun h => ?_) (fun h => ⟨vp_in_nI (by omega) (by decide), ?_⟩)
    · have e : w = L + 1 := by omega
      subst e; exact hp
    · rw [nI_clamp (show w < 2 ^ 31 by omega), hw w (by omega)]
      exact nm_r (nI_add _ _) (nm_r (nI_1 w) (ih (w + 1) (by omega) (by omega)))
theorem ks_xfitting {post : Int32 → SX → Prop} (hc : c ≤ 7) (hL : L ≤ 60) (hG : ks_G c aw av au af W V S F)
    (hp : ∀ tb wy, post (nI (ks_nc (ks_pl W S c (L + 1)) (3 ^ c))) (nI c, nI L, aw, av, au, af, tb, wy, st, fx, pr)) : wpX_fitting post (nI c, nI L, aw, av, au, af, tb, wy, st, fx, pr) := by
  have hS : ∀ i, i < c → S i ≤ 2 := fun i hi => (hG i hi).2.2.2.2.2.2.2.2.1
  unfold wpX_fitting
  dsimp only
  refine ks_fill1 hc hG (fun tb wy hC => ?_)
  dsimp only
  refine ⟨L + 2, ks_fi9 hL (fun w hw => (ks_row0 hC w hw).2) ?_ (L + 2) 0 (by omega) (by omega)⟩
  rw [ks_pl_sum hS]
  exact hp tb wy
theorem ks_xweighing {post : Int32 → SX → Prop} {w : Nat} (hc : c ≤ 7) (hw : w ≤ 300) (hG : ks_G c aw av au af W V S F)
    (hp : ∀ tb wy, post (nI (ks_nc (ks_pw W S 0 c w) (3 ^ c))) (nI c, nI L, aw, av, au, af, tb, wy, st, fx, pr)) : wpX_weighing post (nI c, nI L, aw, av, au, af, tb, wy, st, fx, pr) (nI w) := by
  have hS : ∀ i, i < c → S i ≤ 2 := fun i hi => (hG i hi).2.2.2.2.2.2.2.2.1
  refine br_f (nI_pos (by omega)) (br_t (nI_le (b := 300) (by omega) (by decide)) ?_)
  refine ks_fill1 hc hG (fun tb wy hC => ?_)
  dsimp only
  refine pk_lt 280 w (fun h => ?_) (fun h => ⟨vp_in_nI (by omega) (by decide), ?_⟩)
  · have z : ks_nc (ks_pw W S 0 c w) (3 ^ c) = 0 := by
      refine ks_nc_no _ (fun s _ => ?_)
      apply Bool.eq_false_iff.mpr
      intro y
      have := (ks_pw_iff.mp y).2
      have b1 := ks_wb (S := S) hc (fun i _ => ks_d_le c s i) (fun i hi => (hG i hi).2.2.2.2.2.1)
      omega
    have := hp tb wy
    rw [z] at this
    exact this
  · rw [nI_clamp (show w < 2 ^ 31 by omega), (ks_row0 hC w h).2, ks_cnt_pw hS]
    exact hp tb wy
theorem ks_fu10 {post : Int32 → SX → Prop} (hc : c ≤ 7) (hL : L ≤ 60) (hS : ∀ i, i < c → S i ≤ 2) (hw : ∀ w, w ≤ 280 → wy w = nI (ks_cnt W S c 0 w))
    (hp : ∀ m, m ≤ L → (m = 0 ∨ 0 < ks_cnt W S c 0 m) → (∀ w, m < w → w ≤ L → ks_cnt W S c 0 w = 0) → post (nI m) (nI c, nI L, aw, av, au, af, tb, wy, st, fx, pr)) :
    ∀ n m, m ≤ L → m < n → (∀ w, m < w → w ≤ L → ks_cnt W S c 0 w = 0) → wX_fullest_10 post (nI c) (nI L) aw av au af tb wy st fx pr n (nI m) := by
  intro n
  induction n with
  | zero => intro m _ h; exact absurd h (Nat.not_lt_zero _)
  | succ n ih =>
    intro m h1 h2 hI
    refine pk_le m 0 (fun h => hp m h1 (Or.inl (by omega)) hI) (fun h => ⟨vp_in_nI (by omega) (by decide), ?_⟩)
    have hb : ks_cnt W S c 0 m ≤ 2187 := by
      rw [ks_cnt_pw hS]
      exact Nat.le_trans (ks_nc_le _) (ks_3c hc)
    rw [nI_clamp (show m < 2 ^ 31 by omega), hw m (by omega)]
    refine pk_eq (ks_cnt W S c 0 m) 0 (fun z => ?_) (fun z => hp m h1 (Or.inr (by omega)) hI)
    obtain ⟨m, rfl⟩ : ∃ q, m = q + 1 := ⟨m - 1, by omega⟩
    refine nm_r (pk_m1 m) (ih m (by omega) (by omega) (fun w h3 h4 => ?_))
    by_cases e : w = m + 1
    · subst e; exact z
    · exact hI w (by omega) h4
theorem ks_xfullest {post : Int32 → SX → Prop} (hc : c ≤ 7) (hL : L ≤ 60) (hG : ks_G c aw av au af W V S F)
    (hp : ∀ m tb wy, (∀ m', ks_Fu c W S L (3 ^ c) m' → m' = m) → post (nI m) (nI c, nI L, aw, av, au, af, tb, wy, st, fx, pr)) : wpX_fullest post (nI c, nI L, aw, av, au, af, tb, wy, st, fx, pr) := by
  have hS : ∀ i, i < c → S i ≤ 2 := fun i hi => (hG i hi).2.2.2.2.2.2.2.2.1
  unfold wpX_fullest
  dsimp only
  refine ks_fill1 hc hG (fun tb wy hC => ?_)
  dsimp only
  refine ⟨L + 1, ks_fu10 hc hL hS (fun w hw => (ks_row0 hC w hw).2) (fun m h1 h2 h3 => hp m tb wy (fun m' hF => ?_)) (L + 1) L (Nat.le_refl _) (by omega) (fun w h1 h2 => by omega)⟩
  have hpos : ∀ w, 0 < ks_cnt W S c 0 w ↔ ∃ s, s < 3 ^ c ∧ (∀ i, i < c → ks_d c s i ≤ S i) ∧ ks_dot (ks_d c s) W c = w := by
    intro w
    rw [ks_cnt_pw hS, ks_nc_pos]
    exact ⟨fun ⟨s, s1, s2⟩ => ⟨s, s1, ks_pw_iff.mp s2⟩, fun ⟨s, s1, s2⟩ => ⟨s, s1, ks_pw_iff.mpr s2⟩⟩
  obtain ⟨f1, f2⟩ := hF
  by_cases z1 : m < m'
  · rcases f1 with f1 | ⟨s, s1, s2, s3, s4⟩
    · omega
    · have a := h3 m' z1 s4
      have b := (hpos m').mpr ⟨s, s1, s2, s3⟩
      omega
  · by_cases z2 : m' < m
    · rcases h2 with h2 | h2
      · omega
      · obtain ⟨s, s1, s2, s3⟩ := (hpos m).mp h2
        have := f2 s s1 s2 (by omega)
        omega
    · omega
theorem ks_li7 {post : Int32 → SX → Prop} {x1 : Int32}
    (hp : ∀ x : Int32, ((x = -1 ∧ ∀ w, w ≤ 280 → ¬ (0 ≤ (tb w).toInt ∧ x1.toInt ≤ (tb w).toInt)) ∨ ∃ w, w ≤ 280 ∧ x = nI w ∧ (0 ≤ (tb w).toInt ∧ x1.toInt ≤ (tb w).toInt) ∧ ∀ w', w' < w → ¬ (0 ≤ (tb w').toInt ∧ x1.toInt ≤ (tb w').toInt)) → post x (nI c, nI L, aw, av, au, af, tb, wy, st, fx, pr)) :
    ∀ n w, w ≤ 281 → 281 - w < n → (∀ w', w' < w → ¬ (0 ≤ (tb w').toInt ∧ x1.toInt ≤ (tb w').toInt)) → wX_lightest_7 post x1 (nI c) (nI L) aw av au af tb wy st fx pr n (nI w) := by
  intro n
  induction n with
  | zero => intro w _ h; exact absurd h (Nat.not_lt_zero _)
  | succ n ih =>
    intro w h1 h2 hI
    refine pk_lt 280 w (fun h => hp _ (Or.inl ⟨rfl, fun w' h' => hI w' (by omega)⟩)) (fun h => ⟨vp_in_nI (by omega) (by decide), ?_⟩)
    rw [nI_clamp (show w < 2 ^ 31 by omega)]
    have hnx : ¬ (0 ≤ (tb w).toInt ∧ x1.toInt ≤ (tb w).toInt) → ∀ w', w' < w + 1 → ¬ (0 ≤ (tb w').toInt ∧ x1.toInt ≤ (tb w').toInt) := by
      intro z w' h'
      by_cases e : w' = w
      · subst e; exact z
      · exact hI w' (by omega)
    refine br_c (fun z => nm_r (nI_1 w) (ih (w + 1) (by omega) (by omega) (hnx (fun y => ?_)))) (fun z => ⟨vp_in_nI (by omega) (by decide), br_c (fun z2 => nm_r (nI_1 w) (ih (w + 1) (by omega) (by omega) (hnx (fun y => ?_)))) (fun z2 => hp _ (Or.inr ⟨w, h, rfl, ⟨?_, ?_⟩, hI⟩))⟩)
    · rw [ks_lt0] at z; omega
    · rw [Int32.lt_iff_toInt_lt] at z2; omega
    · rw [ks_lt0] at z; omega
    · rw [Int32.lt_iff_toInt_lt] at z2; omega
theorem ks_xlightest {post : Int32 → SX → Prop} {x1 : Int32} (hc : c ≤ 7) (hG : ks_G c aw av au af W V S F)
    (hp : ∀ x tb wy, (∀ x', ks_Li c W V S x1.toInt (3 ^ c) x' → x' = x) → post x (nI c, nI L, aw, av, au, af, tb, wy, st, fx, pr)) : wpX_lightest post (nI c, nI L, aw, av, au, af, tb, wy, st, fx, pr) x1 := by
  have hW : ∀ i, i < c → W i ≤ 20 := fun i hi => (hG i hi).2.2.2.2.2.1
  have hS : ∀ i, i < c → S i ≤ 2 := fun i hi => (hG i hi).2.2.2.2.2.2.2.2.1
  unfold wpX_lightest
  dsimp only
  refine ks_fill1 hc hG (fun tb wy hC => ?_)
  dsimp only
  have hR := ks_row0 hC
  have hiff : ∀ w, w ≤ 280 → ((0 ≤ (tb w).toInt ∧ x1.toInt ≤ (tb w).toInt) ↔ ∃ s, s < 3 ^ c ∧ (∀ i, i < c → ks_d c s i ≤ S i) ∧ x1.toInt ≤ (ks_dot (ks_d c s) V c : Nat) ∧ ks_dot (ks_d c s) W c = w) := by
    intro w hw
    constructor
    · intro ⟨a, b⟩
      obtain ⟨v, v1, ⟨d, d1, d2, d3⟩, v3⟩ := ks_Top_pos (hR w hw).1 a
      have d4 := (ks_AC_v hS).2 d d1
      have ec := ks_d_cd c d4
      refine ⟨ks_cd d c, ks_cd_lt c d4, fun i hi => by rw [ec i hi]; exact d1.1 i hi, ?_, ?_⟩
      · rw [ks_dot_congr c ec, d3]; omega
      · rw [ks_dot_congr c ec]; exact d2
    · intro ⟨s, s1, s2, s3, s4⟩
      have := ks_Top_ge (hR w hw).1 ⟨ks_d c s, ⟨s2, fun i hi => absurd hi (Nat.not_lt_zero _)⟩, s4, rfl⟩
      omega
  refine ⟨282, ks_li7 (fun x hx => hp x tb wy (fun x' hL => ?_)) 282 0 (by omega) (by omega) (fun w' h' => absurd h' (Nat.not_lt_zero _))⟩
  rcases hx with ⟨a1, a2⟩ | ⟨w, w1, w2, w3, w4⟩
  · rcases hL with ⟨b1, b2⟩ | ⟨m, m0, m1, m2, m3⟩
    · rw [a1, b1]
    · exact absurd ((hiff m m0).mpr m2) (a2 m m0)
  · obtain ⟨s, s1, s2, s3, s4⟩ := (hiff w w1).mp w3
    rcases hL with ⟨b1, b2⟩ | ⟨m, m0, m1, m2, m3⟩
    · exact absurd s3 (b2 s s1 s2)
    · have p := m3 s s1 s2 s3
      have q : ¬ m < w := fun z => w4 m z ((hiff m m0).mpr m2)
      rw [m1, w2, show m = w by omega]
theorem ks_xhv4 {post : Int32 → SX → Prop} (hc : c ≤ 7) (hG : ks_G c aw av au af W V S F)
    (hp : ∀ tb wy, post (if ks_dot S W c % 2 = 0 ∧ 0 < ks_nc (ks_pw W S 0 c (ks_dot S W c / 2)) (3 ^ c) then 1 else 0) (nI c, nI L, aw, av, au, af, tb, wy, st, fx, pr)) : ∀ n k, k ≤ c → c - k < n → wX_halves_4 post (nI c) (nI L) aw av au af tb wy st fx pr n (nI (ks_dot S W k)) (nI k) := by
  have hW : ∀ i, i < c → W i ≤ 20 := fun i hi => (hG i hi).2.2.2.2.2.1
  have hS : ∀ i, i < c → S i ≤ 2 := fun i hi => (hG i hi).2.2.2.2.2.2.2.2.1
  intro n
  induction n with
  | zero => intro k _ h; exact absurd h (Nat.not_lt_zero _)
  | succ n ih =>
    intro k h1 h2
    refine pk_le c k (fun h => ?_) (fun h => ⟨vp_in_nI (by omega) (by decide), vp_in_nI (by omega) (by decide), ?_⟩)
    · have e : k = c := by omega
      subst e
      have b1 := ks_wb (S := S) (d := S) hc hS hW
      refine ks_fill1 hc hG (fun tb wy hC => ?_)
      dsimp only
      generalize ks_dot S W k = D at hp b1
      have hb : ks_nc (ks_pw W S 0 k (D / 2)) (3 ^ k) ≤ 2187 := Nat.le_trans (ks_nc_le _) (ks_3c hc)
      rw [pk_andN (n := D) (by omega) (m := 1) 1 (by decide), pk_shrN (n := D) (by omega) _ 1 (by decide)]
      refine pk_eq (D % 2 ^ 1) 0 (fun z => ⟨vp_in_nI (by omega) (by decide), ?_⟩) (fun z => ?_)
      · rw [nI_clamp (show D / 2 ^ 1 < 2 ^ 31 by omega), (ks_row0 hC (D / 2 ^ 1) (by omega)).2, ks_cnt_pw hS]
        refine pk_le (ks_nc (ks_pw W S 0 k (D / 2)) (3 ^ k)) 0 (fun z2 => ?_) (fun z2 => ?_)
        · have := hp tb wy
          rw [if_neg (by omega)] at this
          exact this
        · have := hp tb wy
          rw [if_pos ⟨z, z2⟩] at this
          exact this
      · have := hp tb wy
        rw [if_neg (by omega)] at this
        exact this
    · rw [nI_clamp (show k < 2 ^ 31 by omega), (hG k h).1, (hG k h).2.2.1, pk_mul]
      exact nm_r (nI_add _ _) (nm_r (nI_1 k) (ih (k + 1) (by omega) (by omega)))
theorem ks_xhalves {post : Int32 → SX → Prop} (hc : c ≤ 7) (hG : ks_G c aw av au af W V S F)
    (hp : ∀ tb wy, post (if ks_dot S W c % 2 = 0 ∧ 0 < ks_nc (ks_pw W S 0 c (ks_dot S W c / 2)) (3 ^ c) then 1 else 0) (nI c, nI L, aw, av, au, af, tb, wy, st, fx, pr)) : wpX_halves post (nI c, nI L, aw, av, au, af, tb, wy, st, fx, pr) :=
  ⟨c + 1, ks_xhv4 hc hG hp (c + 1) 0 (by omega) (by omega)⟩
end
end
section
/-! Y's answers, and the goods' lists -/
theorem ks_nm1 {o : Nat} (ho : o < 2 ^ 31) : ¬ (-1 : Int32) = nI o := by
  intro z
  have h := nI_pos ho
  rw [← z] at h
  exact absurd (by decide) h
theorem ks_A_best {c : Nat} {S F : Nat → Nat} (hc : c ≤ 7) : ks_A c S F 0 (-1) = ks_Av c S 0 := by
  funext d
  exact propext ⟨fun a => ⟨a.1, fun i hi => absurd hi (Nat.not_lt_zero _)⟩, fun a => ⟨a.1, fun z => absurd rfl z, fun o ho z => absurd z (ks_nm1 (by omega))⟩⟩
theorem ks_A_strict {c : Nat} {S F : Nat → Nat} (hc : c ≤ 7) : ks_A c S F 1 (-1) = ks_B c S F := by
  funext d
  exact propext ⟨fun a => ⟨a.1, a.2.1 (by decide)⟩, fun a => ⟨a.1, fun _ => a.2, fun o ho z => absurd z (ks_nm1 (by omega))⟩⟩
theorem ks_A_without {c o : Nat} {S F : Nat → Nat} (hc : c ≤ 7) (ho : o < c) : ks_A c S F 0 (nI o) = ks_Av c (ks_So S o) 0 := by
  funext d
  unfold ks_So
  refine propext ⟨fun a => ⟨fun i hi => ?_, fun i hi => absurd hi (Nat.not_lt_zero _)⟩, fun a => ⟨fun i hi => ?_, fun z => absurd rfl z, fun o' ho' z => ?_⟩⟩
  · by_cases e : i = o
    · rw [e, ks_up_s, a.2.2 o ho rfl]; omega
    · rw [ks_up_n e]; exact a.1 i hi
  · have := a.1 i hi
    by_cases e : i = o
    · rw [e, ks_up_s] at this; rw [e]; omega
    · rw [ks_up_n e] at this; exact this
  · rw [nI_eq (by omega) (by omega)] at z
    have := a.1 o ho
    rw [ks_up_s] at this
    rw [← z]; omega
section
variable {c L : Nat} {aw av au af tk : Nat → Int32} {W V S F : Nat → Nat} {hv wo : Int32}
theorem ks_ybest {post : Int32 → SY → Prop} (hc : c ≤ 7) (hL : L ≤ 60) (hG : ks_G c aw av au af W V S F)
    (hp : ∀ r hv wo tk, ks_Best c W V L (ks_Av c S 0) r → post (nI (ks_dot (ks_d c r) V c)) (nI c, nI L, hv, wo, aw, av, au, af, tk)) : wpY_best post (nI c, nI L, hv, wo, aw, av, au, af, tk) := by
  unfold wpY_best
  dsimp only
  refine ks_search hc hL hG (Or.inl (by decide)) (fun r hv wo tk hr => ?_)
  dsimp only
  rw [ks_A_best hc] at hr
  exact ks_valueAt hc hG hr.2.1.1 hr.1 (fun hv wo tk => hp r hv wo tk hr)
theorem ks_ybestCode {post : Int32 → SY → Prop} (hc : c ≤ 7) (hL : L ≤ 60) (hG : ks_G c aw av au af W V S F)
    (hp : ∀ r hv wo tk, ks_Best c W V L (ks_Av c S 0) r → post (nI r) (nI c, nI L, hv, wo, aw, av, au, af, tk)) : wpY_bestCode post (nI c, nI L, hv, wo, aw, av, au, af, tk) := by
  unfold wpY_bestCode
  dsimp only
  refine ks_search hc hL hG (Or.inl (by decide)) (fun r hv wo tk hr => ?_)
  rw [ks_A_best hc] at hr
  exact hp r hv wo tk hr
theorem ks_ybestStrict {post : Int32 → SY → Prop} (hc : c ≤ 7) (hL : L ≤ 60) (hG : ks_G c aw av au af W V S F)
    (hp : ∀ r hv wo tk, ks_Best c W V L (ks_B c S F) r → post (nI (ks_dot (ks_d c r) V c)) (nI c, nI L, hv, wo, aw, av, au, af, tk)) : wpY_bestStrict post (nI c, nI L, hv, wo, aw, av, au, af, tk) := by
  unfold wpY_bestStrict
  dsimp only
  refine ks_search hc hL hG (Or.inl (by decide)) (fun r hv wo tk hr => ?_)
  dsimp only
  rw [ks_A_strict hc] at hr
  exact ks_valueAt hc hG hr.2.1.1 hr.1 (fun hv wo tk => hp r hv wo tk hr)
theorem ks_ybestStrictCode {post : Int32 → SY → Prop} (hc : c ≤ 7) (hL : L ≤ 60) (hG : ks_G c aw av au af W V S F)
    (hp : ∀ r hv wo tk, ks_Best c W V L (ks_B c S F) r → post (nI r) (nI c, nI L, hv, wo, aw, av, au, af, tk)) : wpY_bestStrictCode post (nI c, nI L, hv, wo, aw, av, au, af, tk) := by
  unfold wpY_bestStrictCode
  dsimp only
  refine ks_search hc hL hG (Or.inl (by decide)) (fun r hv wo tk hr => ?_)
  rw [ks_A_strict hc] at hr
  exact hp r hv wo tk hr
theorem ks_ywithout {post : Int32 → SY → Prop} {o : Nat} (hc : c ≤ 7) (hL : L ≤ 60) (ho : o < c) (hG : ks_G c aw av au af W V S F)
    (hp : ∀ r hv wo tk, ks_Best c W V L (ks_Av c (ks_So S o) 0) r → post (nI (ks_dot (ks_d c r) V c)) (nI c, nI L, hv, wo, aw, av, au, af, tk)) : wpY_without post (nI c, nI L, hv, wo, aw, av, au, af, tk) (nI o) := by
  unfold wpY_without
  dsimp only
  refine br_f (nI_pos (by omega)) (br_f (nI_ge ho (by omega)) (br_t (nI_le (b := 6) (by omega) (by decide)) (br_t rfl ?_)))
  refine ks_search hc hL hG (Or.inr ⟨o, ho, rfl⟩) (fun r hv wo tk hr => ?_)
  dsimp only
  rw [ks_A_without hc ho] at hr
  refine ks_valueAt hc hG (fun i hi => ?_) hr.1 (fun hv wo tk => hp r hv wo tk hr)
  have := hr.2.1.1 i hi
  unfold ks_So at this
  by_cases e : i = o
  · rw [e, ks_up_s] at this; rw [e]; omega
  · rw [ks_up_n e] at this; exact this
theorem ks_yhv4 {post : Int32 → SY → Prop} (hc : c ≤ 7) (hG : ks_G c aw av au af W V S F)
    (hp : ∀ hv wo tk, post (if ks_dot S W c % 2 = 0 ∧ 0 < ks_nc (ks_pw W S 0 c (ks_dot S W c / 2)) (3 ^ c) then 1 else 0) (nI c, nI L, hv, wo, aw, av, au, af, tk)) : ∀ n k, k ≤ c → c - k < n → wY_halves_4 post (nI c) (nI L) hv wo aw av au af tk n (nI (ks_dot S W k)) (nI k) := by
  have hW : ∀ i, i < c → W i ≤ 20 := fun i hi => (hG i hi).2.2.2.2.2.1
  have hS : ∀ i, i < c → S i ≤ 2 := fun i hi => (hG i hi).2.2.2.2.2.2.2.2.1
  intro n
  induction n with
  | zero => intro k _ h; exact absurd h (Nat.not_lt_zero _)
  | succ n ih =>
    intro k h1 h2
    refine pk_le c k (fun h => ?_) (fun h => br_f (nI_ge (b := 7) (by omega) (by decide)) ⟨vp_in_nI (by omega) (by decide), vp_in_nI (by omega) (by decide), ?_⟩)
    · have e : k = c := by omega
      subst e
      have b1 := ks_wb (S := S) (d := S) hc hS hW
      generalize ks_dot S W k = D at hp b1
      have hb : ks_nc (ks_pw W S 0 k (D / 2)) (3 ^ k) ≤ 2187 := Nat.le_trans (ks_nc_le _) (ks_3c hc)
      have er : nI D - nI D / 2 * 2 = nI (D % 2) := pk_rem (a := D) (d := 2) (by omega) (by decide) (by decide)
      have ed : nI D / 2 = nI (D / 2) := pk_div (a := D) (d := 2) (by omega) (by decide) (by decide)
      unfold wY_halves_40
      rw [er, ed]
      refine ⟨by decide, pk_eq (D % 2) 0 (fun z => ⟨by decide, ?_⟩) (fun z => ?_)⟩
      · refine ks_having (w := D / 2) hc (by omega) hG (fun s _ => ks_pw_iff) (fun hv wo tk => ?_)
        refine pk_le (ks_nc (ks_pw W S 0 k (D / 2)) (3 ^ k)) 0 (fun z2 => ?_) (fun z2 => ?_)
        · have := hp hv wo tk
          rw [if_neg (by omega)] at this
          exact this
        · have := hp hv wo tk
          rw [if_pos ⟨z, z2⟩] at this
          exact this
      · have := hp hv wo tk
        rw [if_neg (by omega)] at this
        exact this
    · rw [nI_clamp (show k < 2 ^ 31 by omega), (hG k h).1, (hG k h).2.2.1, pk_mul]
      exact nm_r (nI_add _ _) (nm_r (nI_1 k) (ih (k + 1) (by omega) (by omega)))
theorem ks_yhalves {post : Int32 → SY → Prop} (hc : c ≤ 7) (hG : ks_G c aw av au af W V S F)
    (hp : ∀ hv wo tk, post (if ks_dot S W c % 2 = 0 ∧ 0 < ks_nc (ks_pw W S 0 c (ks_dot S W c / 2)) (3 ^ c) then 1 else 0) (nI c, nI L, hv, wo, aw, av, au, af, tk)) : wpY_halves post (nI c, nI L, hv, wo, aw, av, au, af, tk) :=
  ⟨c + 1, ks_yhv4 hc hG hp (c + 1) 0 (by omega) (by omega)⟩
end
theorem ks_G_put {c : Nat} {aw av au af : Nat → Int32} {W V S F : Nat → Nat} {w v s f : Nat} (hG : ks_G c aw av au af W V S F) (w1 : 1 ≤ w) (w2 : w ≤ 20) (v2 : v ≤ 50) (s1 : 1 ≤ s) (s2 : s ≤ 2) (f2 : f ≤ 3) : ks_G (c + 1) (upd aw c (nI w)) (upd av c (nI v)) (upd au c (nI s)) (upd af c (nI f)) (ks_up W c w) (ks_up V c v) (ks_up S c s) (ks_up F c f) := by
  intro i hi
  by_cases e : i = c
  · subst e
    rw [pk_us, pk_us, pk_us, pk_us, ks_up_s, ks_up_s, ks_up_s, ks_up_s]
    exact ⟨rfl, rfl, rfl, rfl, w1, w2, v2, s1, s2, f2⟩
  · rw [pk_un e, pk_un e, pk_un e, pk_un e, ks_up_n e, ks_up_n e, ks_up_n e, ks_up_n e]
    exact hG i (by omega)
theorem ks_G_shift {c k : Nat} {aw av au af : Nat → Int32} {W V S F : Nat → Nat} (hG : ks_G c aw av au af W V S F) (hk : k + 1 < c) : ks_G c (upd aw k (aw (k + 1))) (upd av k (av (k + 1))) (upd au k (au (k + 1))) (upd af k (af (k + 1))) (ks_up W k (W (k + 1))) (ks_up V k (V (k + 1))) (ks_up S k (S (k + 1))) (ks_up F k (F (k + 1))) := by
  intro i hi
  by_cases e : i = k
  · subst e
    rw [pk_us, pk_us, pk_us, pk_us, ks_up_s, ks_up_s, ks_up_s, ks_up_s]
    exact hG (i + 1) hk
  · rw [pk_un e, pk_un e, pk_un e, pk_un e, ks_up_n e, ks_up_n e, ks_up_n e, ks_up_n e]
    exact hG i hi
section
variable {c L : Nat} {aw av au af tb wy st fx pr tk : Nat → Int32} {W V S F : Nat → Nat} {hv wo : Int32}
theorem ks_xput {post : SX → Prop} {p0 p1 p2 p3 : Int32} (hc : c < 7) (hp : post (nI (c + 1), nI L, upd aw c p0, upd av c p1, upd au c p2, upd af c p3, tb, wy, st, fx, pr)) : wpX_put post (nI c, nI L, aw, av, au, af, tb, wy, st, fx, pr) p0 p1 p2 p3 := by
  unfold wpX_put
  dsimp only
  rw [nI_clamp (show c < 2 ^ 31 by omega)]
  have h7 : vp_in (nI c) 7 := vp_in_nI hc (by decide)
  exact ⟨h7, nm_e ⟨h7, nm_e ⟨h7, nm_e ⟨h7, nm_e (nm_r (nI_1 c) hp)⟩⟩⟩⟩
theorem ks_yput {post : Int32 → SY → Prop} {p0 p1 p2 p3 : Int32} (hc : c < 7) (hp : post (nI c) (nI (c + 1), nI L, hv, wo, upd aw c p0, upd av c p1, upd au c p2, upd af c p3, tk)) : wpY_put post (nI c, nI L, hv, wo, aw, av, au, af, tk) p0 p1 p2 p3 := by
  unfold wpY_put
  dsimp only
  rw [nI_clamp (show c < 2 ^ 31 by omega)]
  have h7 : vp_in (nI c) 7 := vp_in_nI hc (by decide)
  exact br_t (nI_le (b := 6) (by omega) (by decide)) ⟨h7, nm_e ⟨h7, nm_e ⟨h7, nm_e ⟨h7, nm_e (nm_r (nI_1 c) hp)⟩⟩⟩⟩
theorem ks_yput7 {post : Int32 → SY → Prop} {p0 p1 p2 p3 : Int32} (hp : post (-4) (nI 7, nI L, hv, wo, aw, av, au, af, tk)) : wpY_put post (nI 7, nI L, hv, wo, aw, av, au, af, tk) p0 p1 p2 p3 :=
  br_f (nI_ge (b := 7) (a := 6) (by decide) (by decide)) hp
theorem ks_sv1 {s k : Nat} (hs : s ≤ 100) (hk : k ≤ 7) : (1 : Int32) + ((nI s + (5 * nI k)) - (nI s + (5 * nI k)) / 20 * 20) = nI (1 + (s + 5 * k) % 20) := by
  have a : (5 : Int32) * nI k = nI (5 * k) := pk_mul 5 k
  rw [a, nI_add, show nI (s + 5 * k) - nI (s + 5 * k) / 20 * 20 = nI ((s + 5 * k) % 20) from pk_rem (a := s + 5 * k) (d := 20) (by omega) (by decide) (by decide)]
  exact nI_add 1 _
theorem ks_sv2 {s k : Nat} (hs : s ≤ 100) (hk : k ≤ 7) : ((nI s * 3) + ((7 * nI k) * nI k)) - ((nI s * 3) + ((7 * nI k) * nI k)) / 51 * 51 = nI ((s * 3 + 7 * k * k) % 51) := by
  have a : (7 : Int32) * nI k = nI (7 * k) := pk_mul 7 k
  have b : nI s * 3 = nI (s * 3) := pk_mul s 3
  have h : 7 * k * k ≤ 49 * 7 := Nat.mul_le_mul (by omega) hk
  rw [a, b, pk_mul, nI_add]
  exact pk_rem (a := s * 3 + 7 * k * k) (d := 51) (by omega) (by decide) (by decide)
theorem ks_sv3 {s k : Nat} (hs : s ≤ 100) (hk : k ≤ 7) : (1 : Int32) + ((nI s + nI k) - (nI s + nI k) / 2 * 2) = nI (1 + (s + k) % 2) := by
  rw [nI_add, show nI (s + k) - nI (s + k) / 2 * 2 = nI ((s + k) % 2) from pk_rem (a := s + k) (d := 2) (by omega) (by decide) (by decide)]
  exact nI_add 1 _
theorem ks_sv4 {s k : Nat} (hs : s ≤ 100) (hk : k ≤ 7) : (nI s + (nI k * nI k)) - (nI s + (nI k * nI k)) / 4 * 4 = nI ((s + k * k) % 4) := by
  have h : k * k ≤ 7 * 7 := Nat.mul_le_mul hk hk
  rw [pk_mul, nI_add]
  exact pk_rem (a := s + k * k) (d := 4) (by omega) (by decide) (by decide)
theorem ks_ysow7 {post : Int32 → SY → Prop} {s m : Nat} (hs : s ≤ 100) (hm : m ≤ 7) (hp : post (nI 7) (nI 7, nI L, hv, wo, aw, av, au, af, tk)) : ∀ d k, k + d = m → wY_sow_28 post (nI s) (nI m) (d + 1) (nI k) (nI 7) (nI L) hv wo aw av au af tk := by
  intro d
  induction d with
  | zero =>
    intro k hk
    exact pk_le m k (fun _ => hp) (fun z => absurd z (by omega))
  | succ d ih =>
    intro k hk
    refine pk_le m k (fun z => absurd z (by omega)) (fun _ => ⟨by decide, by decide, by decide, by decide, ks_yput7 ?_⟩)
    exact nm_r (nI_1 k) (ih (k + 1) (by omega))
theorem ks_sow {s m : Nat} (hs : s ≤ 100) (hm : m ≤ 7) : ∀ d k c aw av au af W V S F, k + d = m → c ≤ 7 → ks_G c aw av au af W V S F →
    ∃ (c' : Nat) (aw' av' au' af' : Nat → Int32) (W' V' S' F' : Nat → Nat), c' ≤ 7 ∧ ks_G c' aw' av' au' af' W' V' S' F' ∧
      (∀ post : Int32 → SX → Prop, post (nI c') (nI c', nI L, aw', av', au', af', tb, wy, st, fx, pr) → wX_sow_28 post (nI s) (nI m) (d + 1) (nI k) (nI c) (nI L) aw av au af tb wy st fx pr) ∧
      (∀ post : Int32 → SY → Prop, post (nI c') (nI c', nI L, hv, wo, aw', av', au', af', tk) → wY_sow_28 post (nI s) (nI m) (d + 1) (nI k) (nI c) (nI L) hv wo aw av au af tk) := by
  intro d
  induction d with
  | zero =>
    intro k c aw av au af W V S F hk hc hG
    exact ⟨c, aw, av, au, af, W, V, S, F, hc, hG, fun post hp => pk_le m k (fun _ => hp) (fun z => absurd z (by omega)), fun post hp => pk_le m k (fun _ => hp) (fun z => absurd z (by omega))⟩
  | succ d ih =>
    intro k c aw av au af W V S F hk hc hG
    by_cases h7 : c = 7
    · subst h7
      exact ⟨7, aw, av, au, af, W, V, S, F, hc, hG, fun post hp => pk_le m k (fun z => absurd z (by omega)) (fun _ => br_t (by decide) hp), fun post hp => ks_ysow7 hs hm hp (d + 1) k hk⟩
    · have hk7 : k ≤ 7 := by omega
      obtain ⟨c', aw', av', au', af', W', V', S', F', r1, r2, r3, r4⟩ := ih (k + 1) (c + 1) _ _ _ _ _ _ _ _ (by omega) (by omega) (ks_G_put (w := 1 + (s + 5 * k) % 20) (v := (s * 3 + 7 * k * k) % 51) (s := 1 + (s + k) % 2) (f := (s + k * k) % 4) hG (by omega) (by omega) (by omega) (by omega) (by omega) (by omega))
      refine ⟨c', aw', av', au', af', W', V', S', F', r1, r2, fun post hp => ?_, fun post hp => ?_⟩
      · refine pk_le m k (fun z => absurd z (by omega)) (fun _ => br_f (nI_ge (b := 7) (by omega) (by decide)) ⟨by decide, nm_r (ks_sv1 hs hk7) ⟨by decide, nm_r (ks_sv2 hs hk7) ⟨by decide, by decide, ?_⟩⟩⟩)
        rw [ks_sv3 hs hk7, ks_sv4 hs hk7]
        exact ks_xput (by omega) (nm_r (nI_1 k) (r3 post hp))
      · refine pk_le m k (fun z => absurd z (by omega)) (fun _ => ⟨by decide, by decide, by decide, by decide, ?_⟩)
        rw [ks_sv1 hs hk7, ks_sv2 hs hk7, ks_sv3 hs hk7, ks_sv4 hs hk7]
        exact ks_yput (by omega) (nm_r (nI_1 k) (r4 post hp))
theorem ks_drop {q : Nat} (hq : q < 7) : ∀ d k aw av au af W V S F, k + d = q → ks_G (q + 1) aw av au af W V S F →
    ∃ (aw' av' au' af' : Nat → Int32) (W' V' S' F' : Nat → Nat), ks_G (q + 1) aw' av' au' af' W' V' S' F' ∧
      (∀ post : Int32 → SX → Prop, post (nI q) (nI q, nI L, aw', av', au', af', tb, wy, st, fx, pr) → wX_drop_14 post (nI (q + 1)) (nI L) (d + 1) (nI (k + 1)) aw av au af tb wy st fx pr) ∧
      (∀ post : Int32 → SY → Prop, post (nI q) (nI q, nI L, hv, wo, aw', av', au', af', tk) → wY_drop_12 post (nI (q + 1)) (nI L) hv wo (d + 1) (nI k) aw av au af tk) := by
  intro d
  induction d with
  | zero =>
    intro k aw av au af W V S F hk hG
    have e : k = q := by omega
    subst e
    refine ⟨aw, av, au, af, W, V, S, F, hG, fun post hp => br_t (nI_le (Nat.le_refl _) (by omega)) (nm_r (nI_pred k) hp), fun post hp => ?_⟩
    unfold wY_drop_12
    rw [nI_pred k]
    exact br_t (nI_le (Nat.le_refl _) (by omega)) (nm_r (nI_pred k) hp)
  | succ d ih =>
    intro k aw av au af W V S F hk hG
    obtain ⟨aw', av', au', af', W', V', S', F', r1, r3, r4⟩ := ih (k + 1) _ _ _ _ _ _ _ _ (by omega) (ks_G_shift (k := k) hG (by omega))
    refine ⟨aw', av', au', af', W', V', S', F', r1, fun post hp => ?_, fun post hp => ?_⟩
    · have h1 : vp_in (nI (k + 1)) 7 := vp_in_nI (by omega) (by decide)
      have h0 : vp_in (nI k) 7 := vp_in_nI (by omega) (by decide)
      unfold wX_drop_14
      rw [nI_pred k, nI_clamp (show k < 2 ^ 31 by omega), nI_clamp (show k + 1 < 2 ^ 31 by omega)]
      exact br_f (nI_ge (by omega) (by omega)) ⟨h1, h0, nm_e ⟨h1, h0, nm_e ⟨h1, h0, nm_e ⟨h1, h0, nm_e (nm_r (nI_1 (k + 1)) (r3 post hp))⟩⟩⟩⟩
    · have h1 : vp_in (nI (k + 1)) 7 := vp_in_nI (by omega) (by decide)
      have h0 : vp_in (nI k) 7 := vp_in_nI (by omega) (by decide)
      unfold wY_drop_12
      rw [nI_pred q, nI_1 k, nI_clamp (show k < 2 ^ 31 by omega), nI_clamp (show k + 1 < 2 ^ 31 by omega)]
      exact br_f (nI_ge (by omega) (by omega)) (br_f (nI_ge (b := 6) (by omega) (by decide)) ⟨h1, h0, nm_e ⟨h1, h0, nm_e ⟨h1, h0, nm_e ⟨h1, h0, nm_e (nm_e (r4 post hp))⟩⟩⟩⟩)
end
end
section
/-! the relation, and what is owed -/
/-- the relation at the head of a turn: the same goods on both sides, in range; all else is free -/
def i_Rel (_ : Nat) (u : SX) (v : SY) : Prop := match u, v with
  | (fc, fl, aw, av, au, af, _, _, _, _, _), (gc, gl, _, _, bw, bv, bu, bf, _) => gc = fc ∧ gl = fl ∧ bw = aw ∧ bv = av ∧ bu = au ∧ bf = af ∧ ∃ (c L : Nat) (W V S F : Nat → Nat), fc = nI c ∧ fl = nI L ∧ c ≤ 7 ∧ L ≤ 60 ∧ ks_G c aw av au af W V S F
theorem ks_el {P : SX → SY → Prop} {k : Nat} {u : SX} {v : SY} (h : ∀ (c L : Nat) (aw av au af tb wy st fx pr tk : Nat → Int32) (hv wo : Int32) (W V S F : Nat → Nat), c ≤ 7 → L ≤ 60 → ks_G c aw av au af W V S F → P (nI c, nI L, aw, av, au, af, tb, wy, st, fx, pr) (nI c, nI L, hv, wo, aw, av, au, af, tk)) (I : i_Rel k u v) : P u v := by
  obtain ⟨fc, fl, aw, av, au, af, tb, wy, st, fx, pr⟩ := u
  obtain ⟨gc, gl, hv, wo, bw, bv, bu, bf, tk⟩ := v
  obtain ⟨e1, e2, e3, e4, e5, e6, c, L, W, V, S, F, e7, e8, hc, hL, hG⟩ := I
  subst e1 e2 e3 e4 e5 e6 e7 e8
  exact h c L _ _ _ _ tb wy st fx pr tk hv wo W V S F hc hL hG
theorem ks_in {k c L : Nat} {aw av au af tb wy st fx pr tk : Nat → Int32} {hv wo : Int32} {W V S F : Nat → Nat} (hc : c ≤ 7) (hL : L ≤ 60) (hG : ks_G c aw av au af W V S F) : i_Rel k (nI c, nI L, aw, av, au, af, tb, wy, st, fx, pr) (nI c, nI L, hv, wo, aw, av, au, af, tk) :=
  ⟨rfl, rfl, rfl, rfl, rfl, rfl, c, L, W, V, S, F, rfl, rfl, hc, hL, hG⟩
theorem ks_ge0 {x : Int32} {n : Nat} (hn : n < 2 ^ 31) (h : nI n ≤ x) : ¬ x < 0 := by
  rw [Int32.le_iff_toInt_le, nI_toInt hn] at h
  rw [ks_lt0]
  omega
theorem ks_n0 {x : Int32} (h : x < 0) : ¬ 0 ≤ x := by
  rw [ks_lt0] at h
  rw [Int32.le_iff_toInt_le, ks_z]
  omega
theorem i_up {k : Nat} {u : SX} {v : SY} (h : i_Rel k u v) : i_Rel (k + 4) u v := h
theorem i_vc0 : wpX_init (fun u => wpY_init (fun v => i_Rel 0 u v)) :=
  ⟨rfl, rfl, rfl, rfl, rfl, rfl, 0, 20, fun _ => 0, fun _ => 0, fun _ => 0, fun _ => 0, rfl, rfl, by omega, by omega, fun i hi => absurd hi (Nat.not_lt_zero _)⟩
theorem i_vc_add {k : Nat} {u : SX} {v : SY} (I : i_Rel k u v) (hk : k + 4 ≤ 2048) (v1 : Int32) (v2 : Int32) (v3 : Int32) : wpX_add (fun r u' => wpY_add (fun r' v' => r' = r ∧ i_Rel (k + 4) u' v') v v1 v2 v3) u v1 v2 v3 := by
  refine ks_el (P := fun u v => wpX_add (fun r u' => wpY_add (fun r' v' => r' = r ∧ i_Rel (k + 4) u' v') v v1 v2 v3) u v1 v2 v3) ?_ I
  intro c L aw av au af tb wy st fx pr tk hv wo W V S F hc hL hG
  by_cases a1 : v1 < 1
  · exact br_t a1 (br_t a1 ⟨rfl, ks_in hc hL hG⟩)
  by_cases a2 : v1 ≤ 20
  · by_cases b1 : v2 < 0
    · exact br_f a1 (br_t a2 (br_t b1 (br_f a1 (br_t a2 (br_t b1 ⟨rfl, ks_in hc hL hG⟩)))))
    by_cases b2 : v2 ≤ 50
    · by_cases d1 : v3 < 4
      · exact br_f a1 (br_t a2 (br_f b1 (br_t b2 (br_t d1 (br_f a1 (br_t a2 (br_f b1 (br_t b2 (br_t d1 ⟨rfl, ks_in hc hL hG⟩)))))))))
      by_cases d2 : v3 ≤ 11
      · have a0 : ¬ v1 < 0 := by
          rw [Int32.lt_iff_toInt_lt, show (1 : Int32).toInt = 1 by decide] at a1
          rw [ks_lt0]
          omega
        have d0 : ¬ v3 < 0 := by
          rw [Int32.lt_iff_toInt_lt, show (4 : Int32).toInt = 4 by decide] at d1
          rw [ks_lt0]
          omega
        obtain ⟨w, hw, rfl⟩ := nI_of2 (M := 20) (n := 20) (by decide) a0 a2
        obtain ⟨y, hy, rfl⟩ := nI_of2 (M := 50) (n := 50) (by decide) b1 b2
        obtain ⟨s, hs, rfl⟩ := nI_of2 (M := 11) (n := 11) (by decide) d0 d2
        have hw1 : 1 ≤ w := by
          rw [show (1 : Int32) = nI 1 from rfl, nI_ltI (by omega) (by omega)] at a1
          omega
        have hs1 : 4 ≤ s := by
          rw [show (4 : Int32) = nI 4 from rfl, nI_ltI (by omega) (by omega)] at d1
          omega
        have e1 : nI s >>> ((2 : Int32) &&& 31) = nI (s / 2 ^ 2) := pk_shrN (by omega) _ 2 (by decide)
        have e2 : nI s &&& 3 = nI (s % 2 ^ 2) := pk_andN (by omega) 2 (by decide)
        have e3 : nI s / 4 = nI (s / 4) := pk_div (a := s) (d := 4) (by omega) (by decide) (by decide)
        have e4 : nI s - nI s / 4 * 4 = nI (s % 4) := pk_rem (a := s) (d := 4) (by omega) (by decide) (by decide)
        refine br_f a1 (br_t a2 (br_f b1 (br_t b2 (br_f d1 (br_t d2 (pk_eq c 7 (fun h7 => ?_) (fun h7 => ?_)))))))
        · subst h7
          exact br_f a1 (br_t a2 (br_f b1 (br_t b2 (br_f d1 (br_t d2 ⟨by decide, by decide, ks_yput7 ⟨rfl, ks_in hc hL hG⟩⟩)))))
        · rw [e1, e2]
          refine ks_xput (by omega) ?_
          dsimp only
          rw [nI_pred]
          refine br_f a1 (br_t a2 (br_f b1 (br_t b2 (br_f d1 (br_t d2 ⟨by decide, by decide, ?_⟩)))))
          rw [e4, e3]
          refine ks_yput (by omega) ⟨rfl, ks_in (by omega) hL (ks_G_put hG hw1 hw hy ?_ ?_ ?_)⟩
          · omega
          · omega
          · omega
      · exact br_f a1 (br_t a2 (br_f b1 (br_t b2 (br_f d1 (br_f d2 (br_f a1 (br_t a2 (br_f b1 (br_t b2 (br_f d1 (br_f d2 ⟨rfl, ks_in hc hL hG⟩)))))))))))
    · exact br_f a1 (br_t a2 (br_f b1 (br_f b2 (br_f a1 (br_t a2 (br_f b1 (br_f b2 ⟨rfl, ks_in hc hL hG⟩)))))))
  · exact br_f a1 (br_f a2 (br_f a1 (br_f a2 ⟨rfl, ks_in hc hL hG⟩)))
theorem i_vc_sow {k : Nat} {u : SX} {v : SY} (I : i_Rel k u v) (hk : k + 4 ≤ 2048) (v1 : Int32) (v2 : Int32) : wpX_sow (fun r u' => wpY_sow (fun r' v' => r' = r ∧ i_Rel (k + 4) u' v') v v1 v2) u v1 v2 := by
  refine ks_el (P := fun u v => wpX_sow (fun r u' => wpY_sow (fun r' v' => r' = r ∧ i_Rel (k + 4) u' v') v v1 v2) u v1 v2) ?_ I
  intro c L aw av au af tb wy st fx pr tk hv wo W V S F hc hL hG
  by_cases a1 : v1 < 0
  · exact br_t a1 (br_t a1 ⟨rfl, ks_in hc hL hG⟩)
  by_cases a2 : v1 ≤ 100
  · by_cases b1 : v2 < 1
    · exact br_f a1 (br_t a2 (br_t b1 (br_f a1 (br_t a2 (br_t b1 ⟨rfl, ks_in hc hL hG⟩)))))
    by_cases b2 : v2 ≤ 7
    · obtain ⟨s, hs, rfl⟩ := nI_of2 (M := 100) (n := 100) (by decide) a1 a2
      have b0 : ¬ v2 < 0 := by
        rw [Int32.lt_iff_toInt_lt, show (1 : Int32).toInt = 1 by decide] at b1
        rw [ks_lt0]
        omega
      obtain ⟨m, hm, rfl⟩ := nI_of2 (M := 7) (n := 7) (by decide) b0 b2
      obtain ⟨c', aw', av', au', af', W', V', S', F', r1, r2, r3, r4⟩ := ks_sow (L := L) (tb := tb) (wy := wy) (st := st) (fx := fx) (pr := pr) (tk := tk) (hv := hv) (wo := wo) hs hm m 0 c aw av au af W V S F (by omega) hc hG
      exact br_f a1 (br_t a2 (br_f b1 (br_t b2 ⟨m + 1, r3 _ (br_f a1 (br_t a2 (br_f b1 (br_t b2 ⟨m + 1, r4 _ ⟨rfl, ks_in r1 hL r2⟩⟩))))⟩)))
    · exact br_f a1 (br_t a2 (br_f b1 (br_f b2 (br_f a1 (br_t a2 (br_f b1 (br_f b2 ⟨rfl, ks_in hc hL hG⟩)))))))
  · exact br_f a1 (br_f a2 (br_f a1 (br_f a2 ⟨rfl, ks_in hc hL hG⟩)))
theorem i_vc_drop {k : Nat} {u : SX} {v : SY} (I : i_Rel k u v) (hk : k + 4 ≤ 2048) (v1 : Int32) : wpX_drop (fun r u' => wpY_drop (fun r' v' => r' = r ∧ i_Rel (k + 4) u' v') v v1) u v1 := by
  refine ks_el (P := fun u v => wpX_drop (fun r u' => wpY_drop (fun r' v' => r' = r ∧ i_Rel (k + 4) u' v') v v1) u v1) ?_ I
  intro c L aw av au af tb wy st fx pr tk hv wo W V S F hc hL hG
  unfold wpX_drop wpY_drop
  dsimp only
  rcases pk_ix v1 (n := c) (by omega) with h | h | ⟨j, hj, rfl⟩
  · exact br_t h (br_t rfl (br_t h (br_f (by decide) ⟨rfl, ks_in hc hL hG⟩)))
  · have hn : ¬ v1 < 0 := ks_ge0 (by omega) h
    exact br_f hn (br_t h (br_t rfl (br_f hn (br_t h (br_f (by decide) ⟨rfl, ks_in hc hL hG⟩)))))
  · obtain ⟨q, rfl⟩ : ∃ q, c = q + 1 := ⟨c - 1, by omega⟩
    obtain ⟨aw', av', au', af', W', V', S', F', r1, r3, r4⟩ := ks_drop (L := L) (tb := tb) (wy := wy) (st := st) (fx := fx) (pr := pr) (tk := tk) (hv := hv) (wo := wo) (q := q) (by omega) (q - j) j aw av au af W V S F (by omega) hG
    have hn : ¬ nI j < 0 := nI_pos (by omega)
    have hl : ¬ nI (q + 1) ≤ nI j := nI_ge hj (by omega)
    have h6 : nI j ≤ 6 := nI_le (b := 6) (by omega) (by decide)
    exact br_f hn (br_f hl (br_f (by decide) (nm_r (nI_1 j) ⟨q - j + 1, r3 _ (br_f hn (br_f hl (br_t h6 (br_t rfl ⟨q - j + 1, r4 _ ⟨rfl, ks_in (by omega) hL (fun i hi => r1 i (by omega))⟩⟩))))⟩)))
theorem i_vc_limit {k : Nat} {u : SX} {v : SY} (I : i_Rel k u v) (hk : k + 4 ≤ 2048) (v1 : Int32) : wpX_limit (fun r u' => wpY_limit (fun r' v' => r' = r ∧ i_Rel (k + 4) u' v') v v1) u v1 := by
  refine ks_el (P := fun u v => wpX_limit (fun r u' => wpY_limit (fun r' v' => r' = r ∧ i_Rel (k + 4) u' v') v v1) u v1) ?_ I
  intro c L aw av au af tb wy st fx pr tk hv wo W V S F hc hL hG
  by_cases a : v1 < 0
  · exact br_t a (br_t a ⟨rfl, ks_in hc hL hG⟩)
  by_cases b : v1 ≤ 60
  · obtain ⟨l, hl, rfl⟩ := nI_of2 (M := 60) (n := 60) (by decide) a b
    exact br_f a (br_t b (br_f a (br_t b ⟨rfl, ks_in hc hl hG⟩)))
  · exact br_f a (br_f b (br_f a (br_f b ⟨rfl, ks_in hc hL hG⟩)))
theorem i_vc_goods {k : Nat} {u : SX} {v : SY} (I : i_Rel k u v) (hk : k + 4 ≤ 2048) : wpX_goods (fun r => wpY_goods (fun r' => r' = r ∧ i_Rel (k + 4) u v) v) u := by
  refine ks_el (P := fun u v => wpX_goods (fun r => wpY_goods (fun r' => r' = r ∧ i_Rel (k + 4) u v) v) u) ?_ I
  intro c L aw av au af tb wy st fx pr tk hv wo W V S F hc hL hG
  exact ⟨rfl, ks_in hc hL hG⟩
theorem i_vc_weightOf {k : Nat} {u : SX} {v : SY} (I : i_Rel k u v) (hk : k + 4 ≤ 2048) (v1 : Int32) : wpX_weightOf (fun r u' => wpY_weightOf (fun r' v' => r' = r ∧ i_Rel (k + 4) u' v') v v1) u v1 := by
  refine ks_el (P := fun u v => wpX_weightOf (fun r u' => wpY_weightOf (fun r' v' => r' = r ∧ i_Rel (k + 4) u' v') v v1) u v1) ?_ I
  intro c L aw av au af tb wy st fx pr tk hv wo W V S F hc hL hG
  by_cases a : v1 < 0
  · have hn : ¬ 0 ≤ v1 := ks_n0 a
    unfold wpX_weightOf wpY_weightOf
    dsimp only
    exact br_f hn (br_t rfl (br_f hn (br_t rfl ⟨rfl, ks_in hc hL hG⟩)))
  · obtain ⟨r, hr, rfl⟩ := nI_of a
    refine ks_xweightOf hc hG hr (fun k1 k2 fx => ?_) (fun k0 fx => ?_)
    · unfold wpY_weightOf
      dsimp only
      exact ks_choice hc hG hr (fun _ _ tk _ => br_f (by decide) ⟨rfl, ks_in hc hL hG⟩) (fun k' hv wo tk => absurd ⟨k1, k2⟩ k')
    · unfold wpY_weightOf
      dsimp only
      exact ks_choice hc hG hr (fun k1 k2 tk _ => absurd ⟨k1, k2⟩ k0) (fun k' hv wo tk => br_t rfl ⟨rfl, ks_in hc hL hG⟩)
theorem i_vc_valueOf {k : Nat} {u : SX} {v : SY} (I : i_Rel k u v) (hk : k + 4 ≤ 2048) (v1 : Int32) : wpX_valueOf (fun r u' => wpY_valueOf (fun r' v' => r' = r ∧ i_Rel (k + 4) u' v') v v1) u v1 := by
  refine ks_el (P := fun u v => wpX_valueOf (fun r u' => wpY_valueOf (fun r' v' => r' = r ∧ i_Rel (k + 4) u' v') v v1) u v1) ?_ I
  intro c L aw av au af tb wy st fx pr tk hv wo W V S F hc hL hG
  by_cases a : v1 < 0
  · have hn : ¬ 0 ≤ v1 := ks_n0 a
    unfold wpX_valueOf wpY_valueOf
    dsimp only
    exact br_f hn (br_t rfl (br_f hn (br_t rfl ⟨rfl, ks_in hc hL hG⟩)))
  · obtain ⟨r, hr, rfl⟩ := nI_of a
    refine ks_xvalueOf hc hG hr (fun k1 k2 fx => ?_) (fun k0 fx => ?_)
    · unfold wpY_valueOf
      dsimp only
      exact ks_choice hc hG hr (fun _ _ tk _ => br_f (by decide) ⟨rfl, ks_in hc hL hG⟩) (fun k' hv wo tk => absurd ⟨k1, k2⟩ k')
    · unfold wpY_valueOf
      dsimp only
      exact ks_choice hc hG hr (fun k1 k2 tk _ => absurd ⟨k1, k2⟩ k0) (fun k' hv wo tk => br_t rfl ⟨rfl, ks_in hc hL hG⟩)
theorem i_vc_best {k : Nat} {u : SX} {v : SY} (I : i_Rel k u v) (hk : k + 4 ≤ 2048) : wpX_best (fun r u' => wpY_best (fun r' v' => r' = r ∧ i_Rel (k + 4) u' v') v) u := by
  refine ks_el (P := fun u v => wpX_best (fun r u' => wpY_best (fun r' v' => r' = r ∧ i_Rel (k + 4) u' v') v) u) ?_ I
  intro c L aw av au af tb wy st fx pr tk hv wo W V S F hc hL hG
  refine ks_xbest hc hL hG (fun x tb wy hx => ?_)
  exact ks_ybest hc hL hG (fun r hv wo tk hr => ⟨(hx r hr).symm, ks_in hc hL hG⟩)
theorem i_vc_bestCode {k : Nat} {u : SX} {v : SY} (I : i_Rel k u v) (hk : k + 4 ≤ 2048) : wpX_bestCode (fun r u' => wpY_bestCode (fun r' v' => r' = r ∧ i_Rel (k + 4) u' v') v) u := by
  refine ks_el (P := fun u v => wpX_bestCode (fun r u' => wpY_bestCode (fun r' v' => r' = r ∧ i_Rel (k + 4) u' v') v) u) ?_ I
  intro c L aw av au af tb wy st fx pr tk hv wo W V S F hc hL hG
  refine ks_xbestCode hc hL hG (fun r tb wy hr => ?_)
  exact ks_ybestCode hc hL hG (fun r' hv wo tk hr' => ⟨by rw [ks_Best_uniq hr' hr], ks_in hc hL hG⟩)
theorem i_vc_bestStrict {k : Nat} {u : SX} {v : SY} (I : i_Rel k u v) (hk : k + 4 ≤ 2048) : wpX_bestStrict (fun r u' => wpY_bestStrict (fun r' v' => r' = r ∧ i_Rel (k + 4) u' v') v) u := by
  refine ks_el (P := fun u v => wpX_bestStrict (fun r u' => wpY_bestStrict (fun r' v' => r' = r ∧ i_Rel (k + 4) u' v') v) u) ?_ I
  intro c L aw av au af tb wy st fx pr tk hv wo W V S F hc hL hG
  refine ks_xbestStrict hc hL hG (fun x st fx hx => ?_)
  exact ks_ybestStrict hc hL hG (fun r hv wo tk hr => ⟨(hx r hr).symm, ks_in hc hL hG⟩)
theorem i_vc_bestStrictCode {k : Nat} {u : SX} {v : SY} (I : i_Rel k u v) (hk : k + 4 ≤ 2048) : wpX_bestStrictCode (fun r u' => wpY_bestStrictCode (fun r' v' => r' = r ∧ i_Rel (k + 4) u' v') v) u := by
  refine ks_el (P := fun u v => wpX_bestStrictCode (fun r u' => wpY_bestStrictCode (fun r' v' => r' = r ∧ i_Rel (k + 4) u' v') v) u) ?_ I
  intro c L aw av au af tb wy st fx pr tk hv wo W V S F hc hL hG
  refine ks_xbestStrictCode hc hL hG (fun r st fx hr => ?_)
  exact ks_ybestStrictCode hc hL hG (fun r' hv wo tk hr' => ⟨by rw [ks_Best_uniq hr' hr], ks_in hc hL hG⟩)
theorem i_vc_fitting {k : Nat} {u : SX} {v : SY} (I : i_Rel k u v) (hk : k + 4 ≤ 2048) : wpX_fitting (fun r u' => wpY_fitting (fun r' v' => r' = r ∧ i_Rel (k + 4) u' v') v) u := by
  refine ks_el (P := fun u v => wpX_fitting (fun r u' => wpY_fitting (fun r' v' => r' = r ∧ i_Rel (k + 4) u' v') v) u) ?_ I
  intro c L aw av au af tb wy st fx pr tk hv wo W V S F hc hL hG
  refine ks_xfitting hc hL hG (fun tb wy => ?_)
  exact ks_fitting (Q := ks_pl W S c (L + 1)) hc hL hG (fun s _ => by rw [ks_pl_iff, Nat.lt_succ_iff]) (fun hv wo tk => ⟨rfl, ks_in hc hL hG⟩)
theorem i_vc_weighing {k : Nat} {u : SX} {v : SY} (I : i_Rel k u v) (hk : k + 4 ≤ 2048) (v1 : Int32) : wpX_weighing (fun r u' => wpY_weighing (fun r' v' => r' = r ∧ i_Rel (k + 4) u' v') v v1) u v1 := by
  refine ks_el (P := fun u v => wpX_weighing (fun r u' => wpY_weighing (fun r' v' => r' = r ∧ i_Rel (k + 4) u' v') v v1) u v1) ?_ I
  intro c L aw av au af tb wy st fx pr tk hv wo W V S F hc hL hG
  by_cases a : v1 < 0
  · exact br_t a (br_t a ⟨rfl, ks_in hc hL hG⟩)
  by_cases b : v1 ≤ 300
  · obtain ⟨w, hw, rfl⟩ := nI_of2 (M := 300) (n := 300) (by decide) a b
    refine ks_xweighing hc hw hG (fun tb wy => ?_)
    exact br_f a (br_t b (ks_having hc hw hG (fun s _ => ks_pw_iff) (fun hv wo tk => ⟨rfl, ks_in hc hL hG⟩)))
  · exact br_f a (br_f b (br_f a (br_f b ⟨rfl, ks_in hc hL hG⟩)))
theorem i_vc_fullest {k : Nat} {u : SX} {v : SY} (I : i_Rel k u v) (hk : k + 4 ≤ 2048) : wpX_fullest (fun r u' => wpY_fullest (fun r' v' => r' = r ∧ i_Rel (k + 4) u' v') v) u := by
  refine ks_el (P := fun u v => wpX_fullest (fun r u' => wpY_fullest (fun r' v' => r' = r ∧ i_Rel (k + 4) u' v') v) u) ?_ I
  intro c L aw av au af tb wy st fx pr tk hv wo W V S F hc hL hG
  refine ks_xfullest hc hL hG (fun m tb wy hm => ?_)
  exact ks_fullest hc hL hG (fun m' hv wo tk hF => ⟨by rw [hm m' hF], ks_in hc hL hG⟩)
theorem i_vc_lightest {k : Nat} {u : SX} {v : SY} (I : i_Rel k u v) (hk : k + 4 ≤ 2048) (v1 : Int32) : wpX_lightest (fun r u' => wpY_lightest (fun r' v' => r' = r ∧ i_Rel (k + 4) u' v') v v1) u v1 := by
  refine ks_el (P := fun u v => wpX_lightest (fun r u' => wpY_lightest (fun r' v' => r' = r ∧ i_Rel (k + 4) u' v') v v1) u v1) ?_ I
  intro c L aw av au af tb wy st fx pr tk hv wo W V S F hc hL hG
  refine ks_xlightest hc hG (fun x tb wy hx => ?_)
  exact ks_lightest hc hG (fun x' hv wo tk hF => ⟨hx x' hF, ks_in hc hL hG⟩)
theorem i_vc_two {k : Nat} {u : SX} {v : SY} (I : i_Rel k u v) (hk : k + 4 ≤ 2048) (v1 : Int32) : wpX_two (fun r u' => wpY_two (fun r' => r' = r ∧ i_Rel (k + 4) u' v) v v1) u v1 := by
  refine ks_el (P := fun u v => wpX_two (fun r u' => wpY_two (fun r' => r' = r ∧ i_Rel (k + 4) u' v) v v1) u v1) ?_ I
  intro c L aw av au af tb wy st fx pr tk hv wo W V S F hc hL hG
  by_cases a : v1 < 0
  · exact br_t a (br_t a ⟨rfl, ks_in hc hL hG⟩)
  by_cases b : v1 ≤ 60
  · obtain ⟨o, ho, rfl⟩ := nI_of2 (M := 60) (n := 60) (by decide) a b
    refine ks_xtwo hc hL ho hG (fun m pr hm => ?_)
    exact ks_ytwo hc hL ho hG (fun m' hm' => ⟨by rw [ks_Mx_uniq hm' hm], ks_in hc hL hG⟩)
  · exact br_f a (br_f b (br_f a (br_f b ⟨rfl, ks_in hc hL hG⟩)))
theorem i_vc_without {k : Nat} {u : SX} {v : SY} (I : i_Rel k u v) (hk : k + 4 ≤ 2048) (v1 : Int32) : wpX_without (fun r u' => wpY_without (fun r' v' => r' = r ∧ i_Rel (k + 4) u' v') v v1) u v1 := by
  refine ks_el (P := fun u v => wpX_without (fun r u' => wpY_without (fun r' v' => r' = r ∧ i_Rel (k + 4) u' v') v v1) u v1) ?_ I
  intro c L aw av au af tb wy st fx pr tk hv wo W V S F hc hL hG
  rcases pk_ix v1 (n := c) (by omega) with h | h | ⟨o, ho, rfl⟩
  · unfold wpX_without wpY_without
    dsimp only
    exact br_t h (br_t rfl (br_t h (br_f (by decide) ⟨rfl, ks_in hc hL hG⟩)))
  · have hn : ¬ v1 < 0 := ks_ge0 (by omega) h
    unfold wpX_without wpY_without
    dsimp only
    exact br_f hn (br_t h (br_t rfl (br_f hn (br_t h (br_f (by decide) ⟨rfl, ks_in hc hL hG⟩)))))
  · refine ks_xwithout hc hL ho hG (fun x tb wy hx => ?_)
    exact ks_ywithout hc hL ho hG (fun r hv wo tk hr => ⟨(hx r hr).symm, ks_in hc hL hG⟩)
theorem i_vc_halves {k : Nat} {u : SX} {v : SY} (I : i_Rel k u v) (hk : k + 4 ≤ 2048) : wpX_halves (fun r u' => wpY_halves (fun r' v' => r' = r ∧ i_Rel (k + 4) u' v') v) u := by
  refine ks_el (P := fun u v => wpX_halves (fun r u' => wpY_halves (fun r' v' => r' = r ∧ i_Rel (k + 4) u' v') v) u) ?_ I
  intro c L aw av au af tb wy st fx pr tk hv wo W V S F hc hL hG
  refine ks_xhalves hc hG (fun tb wy => ?_)
  exact ks_yhalves hc hG (fun hv wo tk => ⟨rfl, ks_in hc hL hG⟩)
end
