section
/-! rows pasted from kit/rows (starting texts) -/
theorem pk_us {f : Nat → Int32} {k : Nat} {x : Int32} : upd f k x k = x := if_pos rfl
theorem pk_un {f : Nat → Int32} {k j : Nat} {x : Int32} (h : j ≠ k) : upd f k x j = f j := if_neg h
theorem pk_sub {a b : Nat} (h : b ≤ a) : nI a - nI b = nI (a - b) := by
  obtain ⟨c, rfl⟩ : ∃ c, a = c + b := ⟨a - b, by omega⟩
  rw [← nI_add, Int32.add_sub_cancel, Nat.add_sub_cancel]
theorem pk_m1 (n : Nat) : nI (n + 1) + (-1) = nI n := by
  rw [← nI_1, Int32.add_assoc, show (1 : Int32) + (-1) = 0 from rfl, Int32.add_zero]
theorem pk_mul (a b : Nat) : nI a * nI b = nI (a * b) := (Int32.ofNat_mul a b).symm
theorem pk_div {a d : Nat} (ha : a < 2 ^ 31) (h0 : 0 < d) (hd : d < 2 ^ 31) : nI a / nI d = nI (a / d) := by
  apply Int32.toInt_inj.mp
  rw [lg_idiv_nonneg (by rw [nI_toInt ha]; omega) (by rw [nI_toInt hd]; omega), nI_toInt ha, nI_toInt hd, nI_toInt (Nat.lt_of_le_of_lt (Nat.div_le_self a d) ha)]
  first | rfl | exact (Int.natCast_ediv _ _).symm
theorem pk_sub_toInt {a b : Nat} (ha : a < 2 ^ 30) (hb : b < 2 ^ 30) : (nI a - nI b).toInt = (a : Int) - b := by
  rw [Int32.toInt_sub, nI_toInt (by omega), nI_toInt (by omega)]
  exact Int.bmod_eq_of_le (by omega) (by omega)
theorem pk_sneg {a b : Nat} (hb : b < 2 ^ 30) (h : a < b) : nI a - nI b < 0 := by
  rw [Int32.lt_iff_toInt_lt, pk_sub_toInt (by omega) hb, show (0 : Int32).toInt = 0 from by decide]
  omega
theorem pk_ix (x : Int32) {n : Nat} (hn : n < 2 ^ 31) : x < 0 ∨ nI n ≤ x ∨ ∃ j : Nat, j < n ∧ x = nI j := by
  by_cases h : x < 0
  · exact Or.inl h
  · obtain ⟨j, hj, rfl⟩ := nI_of h
    by_cases h2 : j < n
    · exact Or.inr (Or.inr ⟨j, h2, rfl⟩)
    · exact Or.inr (Or.inl (nI_le (by omega) hj))
theorem pk_le {x y : Int32} {A B : Prop} (a b : Nat) (f : a ≤ b → A) (g : b < a → B) (hx : x = nI a := by rfl) (hy : y = nI b := by rfl) (ha : a < 2 ^ 31 := by omega) (hb : b < 2 ^ 31 := by omega) : (x ≤ y → A) ∧ (¬ x ≤ y → B) := by
  subst hx hy
  rw [nI_leI ha hb]
  exact ⟨f, fun z => g (by omega)⟩
theorem pk_lt {x y : Int32} {A B : Prop} (a b : Nat) (f : a < b → A) (g : b ≤ a → B) (hx : x = nI a := by rfl) (hy : y = nI b := by rfl) (ha : a < 2 ^ 31 := by omega) (hb : b < 2 ^ 31 := by omega) : (x < y → A) ∧ (¬ x < y → B) := by
  subst hx hy
  rw [nI_ltI ha hb]
  exact ⟨f, fun z => g (by omega)⟩
theorem pk_eq {x y : Int32} {A B : Prop} (a b : Nat) (f : a = b → A) (g : a ≠ b → B) (hx : x = nI a := by rfl) (hy : y = nI b := by rfl) (ha : a < 2 ^ 31 := by omega) (hb : b < 2 ^ 31 := by omega) : (x = y → A) ∧ (¬ x = y → B) := by
  subst hx hy
  rw [nI_eq ha hb]
  exact ⟨f, g⟩
theorem pk_in {x : Int32} (n N : Nat) (h : n < N) (hx : x = nI n := by rfl) (hN : N < 2 ^ 31 := by omega) : vp_in x N := by
  subst hx
  exact vp_in_nI h hN
theorem pk_cl {x : Int32} (n : Nat) (hx : x = nI n := by rfl) (h : n < 2 ^ 31 := by omega) : x.toNatClampNeg = n := by
  subst hx
  exact nI_clamp h
theorem pk_tn {n : Nat} (h : n < 2 ^ 32) : (nI n).toBitVec.toNat = n := Nat.mod_eq_of_lt h
theorem pk_and (x : Int32) {m : Int32} (k : Nat) (hm : m.toBitVec.toNat = 2 ^ k - 1) : x &&& m = nI (x.toBitVec.toNat % 2 ^ k) := by
  apply Int32.toBitVec_inj.mp
  apply BitVec.eq_of_toNat_eq
  rw [Int32.toBitVec_and, BitVec.toNat_and, hm, Nat.and_two_pow_sub_one_eq_mod]
  show _ = (BitVec.ofNat 32 _).toNat
  rw [BitVec.toNat_ofNat]
  exact (Nat.mod_eq_of_lt (Nat.lt_of_le_of_lt (Nat.mod_le _ _) x.toBitVec.isLt)).symm
theorem pk_andN {n : Nat} (h : n < 2 ^ 32) {m : Int32} (k : Nat) (hm : m.toBitVec.toNat = 2 ^ k - 1) : nI n &&& m = nI (n % 2 ^ k) := by
  rw [pk_and _ k hm, pk_tn h]
theorem pk_shr (a s : Int32) (k : Nat) (hs : (s.toBitVec.smod 32).toNat = k) : (a >>> s).toInt = a.toInt >>> k := by
  show (a.toBitVec.sshiftRight (s.toBitVec.smod 32).toNat).toInt = _
  rw [hs, BitVec.toInt_sshiftRight]
  rfl
theorem pk_shrN {n : Nat} (h : n < 2 ^ 31) (s : Int32) (k : Nat) (hs : (s.toBitVec.smod 32).toNat = k) : nI n >>> s = nI (n / 2 ^ k) := by
  apply Int32.toInt_inj.mp
  have h2 : n / 2 ^ k ≤ n := Nat.div_le_self _ _
  rw [pk_shr _ _ k hs, nI_toInt h, nI_toInt (by omega), Int.shiftRight_eq_div_pow]
  rfl
theorem pk_lT {n : Nat} (h : n < 2 ^ 63) : (lN n).toInt = (n : Int) := lg_ofNat_toInt h
theorem pk_lEQ {a b : Nat} (ha : a < 2 ^ 63) (hb : b < 2 ^ 63) : lN a = lN b ↔ a = b := by
  rw [← Int64.toInt_inj, pk_lT ha, pk_lT hb]; omega
theorem pk_least (P : Nat → Prop) (h : ∃ k, P k) : ∃ k, P k ∧ ∀ j, j < k → ¬ P j := by
  obtain ⟨k, hk⟩ := h
  induction k using Nat.strongRecOn with
  | ind k ih =>
    by_cases e : ∃ j, j < k ∧ P j
    · obtain ⟨j, hj, pj⟩ := e
      exact ih j hj pj
    · exact ⟨k, hk, fun j hj pj => e ⟨j, hj, pj⟩⟩
theorem wb_tb (n : Nat) : (lN n).toBitVec = BitVec.ofNat 64 n := rfl
theorem wb_inj {a b : Int64} (h : a.toBitVec = b.toBitVec) : a = b := Int64.toBitVec_inj.mp h
theorem wb_tn {n : Nat} (h : n < 2 ^ 64) : (lN n).toBitVec.toNat = n := by rw [wb_tb, BitVec.toNat_ofNat, Nat.mod_eq_of_lt h]
theorem wb_c : ∀ k, k < 64 → ((nI k).toInt64 &&& 63) = lN k := by decide +kernel
theorem wb_cu : ∀ k, k < 64 → ((nI k).toInt64.toUInt64 &&& Int64.toUInt64 63) = UInt64.ofNat k := by decide +kernel
theorem wb_sm : ∀ k, k < 64 → (BitVec.ofNat 64 k).smod 64 = BitVec.ofNat 64 k := by decide +kernel
theorem wb_pw {a b : Nat} (h : a ≤ b) : 2 ^ b = 2 ^ a * 2 ^ (b - a) := by rw [← Nat.pow_add]; congr 1; omega
theorem wb_lt2 {a b : Nat} (h : a < b) : 2 ^ a < 2 ^ b := Nat.pow_lt_pow_right (by decide) h
theorem wb_shr {n k : Nat} (hn : n < 2 ^ 64) (hk : k < 64) : ((lN n).toUInt64 >>> ((nI k).toInt64.toUInt64 &&& Int64.toUInt64 63)).toInt64 = lN (n / 2 ^ k) := by
  rw [wb_cu k hk]
  apply wb_inj
  apply BitVec.eq_of_toNat_eq
  show ((lN n).toUInt64 >>> UInt64.ofNat k).toNat = (BitVec.ofNat 64 _).toNat
  have h1 : (UInt64.ofNat k).toNat = k := by
    show (BitVec.ofNat 64 k).toNat = k
    rw [BitVec.toNat_ofNat, Nat.mod_eq_of_lt (by omega)]
  have h2 : (lN n).toUInt64.toNat = n := wb_tn hn
  rw [UInt64.toNat_shiftRight, h1, h2, Nat.mod_eq_of_lt hk, Nat.shiftRight_eq_div_pow, BitVec.toNat_ofNat, Nat.mod_eq_of_lt (Nat.lt_of_le_of_lt (Nat.div_le_self _ _) hn)]
theorem wb_shl (n : Nat) {k : Nat} (hk : k < 64) : lN n <<< ((nI k).toInt64 &&& 63) = lN (n * 2 ^ k) := by
  rw [wb_c k hk]
  apply wb_inj
  rw [Int64.toBitVec_shiftLeft, wb_tb, wb_tb, wb_tb, wb_sm k hk]
  apply BitVec.eq_of_toNat_eq
  rw [BitVec.shiftLeft_eq', BitVec.toNat_shiftLeft, BitVec.toNat_ofNat, BitVec.toNat_ofNat, BitVec.toNat_ofNat, Nat.mod_eq_of_lt (show k < 2 ^ 64 by omega), Nat.shiftLeft_eq, Nat.mul_mod, Nat.mod_mod, ← Nat.mul_mod]
theorem wb_and {a b : Nat} (ha : a < 2 ^ 64) (hb : b < 2 ^ 64) : lN a &&& lN b = lN (a &&& b) := by
  apply wb_inj
  rw [Int64.toBitVec_and, wb_tb, wb_tb, wb_tb]
  apply BitVec.eq_of_toNat_eq
  rw [BitVec.toNat_and, BitVec.toNat_ofNat, BitVec.toNat_ofNat, BitVec.toNat_ofNat, Nat.mod_eq_of_lt ha, Nat.mod_eq_of_lt hb, Nat.mod_eq_of_lt (Nat.and_lt_two_pow _ hb)]
theorem wb_or {a b : Nat} (ha : a < 2 ^ 64) (hb : b < 2 ^ 64) : lN a ||| lN b = lN (a ||| b) := by
  apply wb_inj
  rw [Int64.toBitVec_or, wb_tb, wb_tb, wb_tb]
  apply BitVec.eq_of_toNat_eq
  rw [BitVec.toNat_or, BitVec.toNat_ofNat, BitVec.toNat_ofNat, BitVec.toNat_ofNat, Nat.mod_eq_of_lt ha, Nat.mod_eq_of_lt hb, Nat.mod_eq_of_lt (Nat.or_lt_two_pow ha hb)]
end
section
/-! filled segments, index arithmetic, sums over subsets -/
def eg_sg (a : Nat → Int32) (b n : Nat) (f : Nat → Int32) : Nat → Int32 := fun i => if b ≤ i ∧ i < b + n then f (i - b) else a i
theorem eg_sg0 {a : Nat → Int32} {b : Nat} {f : Nat → Int32} : eg_sg a b 0 f = a := by
  funext i
  exact if_neg (by omega)
theorem eg_up {a : Nat → Int32} {b x : Nat} {f : Nat → Int32} {i : Nat} {v : Int32} (hi : i = b + x) (hv : v = f x) : upd (eg_sg a b x f) i v = eg_sg a b (x + 1) f := by
  subst hi hv
  funext j
  show (if j = b + x then f x else if b ≤ j ∧ j < b + x then f (j - b) else a j) = if b ≤ j ∧ j < b + (x + 1) then f (j - b) else a j
  by_cases h : j = b + x
  · rw [if_pos h, if_pos (by omega), h, Nat.add_sub_cancel_left]
  · rw [if_neg h]
    by_cases h2 : b ≤ j ∧ j < b + x
    · rw [if_pos h2, if_pos (by omega)]
    · rw [if_neg h2, if_neg (by omega)]
theorem eg_sgi {a : Nat → Int32} {b n : Nat} {f : Nat → Int32} {j : Nat} (h : j < n) : eg_sg a b n f (b + j) = f j := by
  show (if b ≤ b + j ∧ b + j < b + n then f (b + j - b) else a (b + j)) = f j
  rw [if_pos (by omega), Nat.add_sub_cancel_left]
theorem eg_sgi0 {a : Nat → Int32} {n : Nat} {f : Nat → Int32} {j : Nat} (h : j < n) : eg_sg a 0 n f j = f j := by
  show (if 0 ≤ j ∧ j < 0 + n then f (j - 0) else a j) = f j
  rw [if_pos (by omega), Nat.sub_zero]
theorem eg_sgo {a : Nat → Int32} {b n : Nat} {f : Nat → Int32} {j : Nat} (h : j < b ∨ b + n ≤ j) : eg_sg a b n f j = a j := if_neg (by omega)
theorem eg_6 : (6 : Int32) = nI 6 := rfl
theorem eg_36 : (36 : Int32) = nI 36 := rfl
theorem eg_m6 (t : Nat) : nI t * 6 = nI (t * 6) := by rw [eg_6, pk_mul]
theorem eg_ix (t c : Nat) : nI t * 6 + nI c = nI (t * 6 + c) := by rw [eg_m6, nI_add]
theorem eg_ix3 (g t c : Nat) : nI g * 36 + nI t * 6 + nI c = nI (g * 36 + t * 6 + c) := by rw [eg_36, pk_mul, eg_m6, nI_add, nI_add]
theorem eg_cl {t c : Nat} (h : t * 6 + c < 2 ^ 31) : (nI t * 6 + nI c).toNatClampNeg = t * 6 + c := by rw [eg_ix]; exact nI_clamp h
theorem eg_in {t c N : Nat} (h : t * 6 + c < N) (hN : N < 2 ^ 31) : vp_in (nI t * 6 + nI c) N := by rw [eg_ix]; exact vp_in_nI h hN
theorem eg_cl3 {g t c : Nat} (h : g * 36 + t * 6 + c < 2 ^ 31) : (nI g * 36 + nI t * 6 + nI c).toNatClampNeg = g * 36 + t * 6 + c := by rw [eg_ix3]; exact nI_clamp h
theorem eg_in3 {g t c N : Nat} (h : g * 36 + t * 6 + c < N) (hN : N < 2 ^ 31) : vp_in (nI g * 36 + nI t * 6 + nI c) N := by rw [eg_ix3]; exact vp_in_nI h hN
theorem eg_dm {t c : Nat} (h : c < 6) : (t * 6 + c) / 6 = t ∧ (t * 6 + c) % 6 = c := by omega
/-! sums over subsets -/
def eg_ps (b : Nat → Bool) (d : Nat → Int) : Nat → Int
  | 0 => 0
  | n + 1 => eg_ps b d n + (if b n = true then d n else 0)
theorem eg_psc {b b' : Nat → Bool} {d d' : Nat → Int} : ∀ n, (∀ t, t < n → (if b t = true then d t else 0) = (if b' t = true then d' t else 0)) → eg_ps b d n = eg_ps b' d' n
  | 0, _ => rfl
  | n + 1, h => by
    show eg_ps b d n + _ = eg_ps b' d' n + _
    rw [eg_psc n (fun t ht => h t (by omega)), h n (by omega)]
theorem eg_ps0 {d : Nat → Int} : ∀ n, eg_ps (fun _ => false) d n = 0
  | 0 => rfl
  | n + 1 => by
    show eg_ps (fun _ => false) d n + (if false = true then d n else 0) = 0
    rw [eg_ps0 n]; rfl
theorem eg_ps1 {d : Nat → Int} {t : Nat} : ∀ n, eg_ps (fun s => decide (s = t)) d n = if t < n then d t else 0
  | 0 => rfl
  | n + 1 => by
    show eg_ps (fun s => decide (s = t)) d n + (if decide (n = t) = true then d n else 0) = _
    rw [eg_ps1 n]
    by_cases h : n = t
    · subst h
      rw [if_neg (Nat.lt_irrefl n), if_pos (decide_eq_true rfl), if_pos (Nat.lt_succ_self n)]; omega
    · rw [if_neg (show ¬ decide (n = t) = true from fun z => h (of_decide_eq_true z))]
      by_cases h2 : t < n
      · rw [if_pos h2, if_pos (by omega)]; omega
      · rw [if_neg h2, if_neg (by omega)]; omega
theorem eg_psx {b : Nat → Bool} {d : Nat → Int} {t : Nat} : ∀ n, eg_ps (fun s => if s = t then true else b s) d n = eg_ps b (fun s => if s = t then 0 else d s) n + (if t < n then d t else 0)
  | 0 => rfl
  | n + 1 => by
    show eg_ps (fun s => if s = t then true else b s) d n + (if (if n = t then true else b n) = true then d n else 0) = eg_ps b (fun s => if s = t then 0 else d s) n + (if b n = true then (if n = t then 0 else d n) else 0) + _
    rw [eg_psx n]
    by_cases h : n = t
    · subst h
      rw [if_neg (Nat.lt_irrefl n), if_pos (Nat.lt_succ_self n)]
      rw [if_pos (show (if n = n then true else b n) = true from if_pos rfl), if_pos rfl]
      by_cases hb : b n = true
      · rw [if_pos hb]
      · rw [if_neg hb]
    · rw [if_neg h, if_neg h]
      by_cases h2 : t < n
      · rw [if_pos h2, if_pos (show t < n + 1 by omega)]; omega
      · rw [if_neg h2, if_neg (show ¬ t < n + 1 by omega)]; omega
/-- the subset sums of the first k are among those of the first n -/
theorem eg_psr {b : Nat → Bool} {d : Nat → Int} {k : Nat} : ∀ n, k ≤ n → eg_ps (fun t => b t && decide (t < k)) d n = eg_ps b d k
  | 0, h => by
    obtain rfl : k = 0 := by omega
    rfl
  | n + 1, h => by
    by_cases e : k = n + 1
    · subst e
      exact eg_psc _ (fun t ht => by
        show (if (b t && decide (t < n + 1)) = true then d t else 0) = _
        rw [decide_eq_true ht, Bool.and_true])
    · show eg_ps (fun t => b t && decide (t < k)) d n + (if (b n && decide (n < k)) = true then d n else 0) = _
      rw [eg_psr n (by omega), decide_eq_false (show ¬ n < k by omega), Bool.and_false, if_neg (by decide)]
      omega
/-- all outcomes lie within a .. m -/
def eg_All (v : Int) (d : Nat → Int) (a m : Int) : Prop := ∀ b : Nat → Bool, a ≤ v + eg_ps b d 6 ∧ v + eg_ps b d 6 ≤ m
theorem eg_AllC {v : Int} {d d' : Nat → Int} {a m : Int} (h : ∀ t, t < 6 → d t = d' t) (H : eg_All v d a m) : eg_All v d' a m := by
  intro b
  have := H b
  rw [eg_psc 6 (fun t ht => by rw [h t ht])] at this
  exact this
theorem eg_AllS {v : Int} {d d' : Nat → Int} {a m : Int} (h : ∀ t, t < 6 → d' t = d t ∨ d' t = 0) (H : eg_All v d a m) : eg_All v d' a m := by
  intro b
  have := H (fun t => b t && decide (d' t = d t))
  rw [eg_psc (b' := b) (d' := d') 6 (fun t ht => ?_)] at this
  · exact this
  · show (if (b t && decide (d' t = d t)) = true then d t else 0) = _
    cases hb : b t
    · rfl
    · rw [Bool.true_and, if_pos rfl]
      by_cases e : d' t = d t
      · rw [if_pos (decide_eq_true e), e]
      · rw [if_neg (show ¬ decide (d' t = d t) = true from fun z => e (of_decide_eq_true z))]
        rcases h t ht with q | q
        · exact absurd q e
        · exact q.symm
theorem eg_AllX {v : Int} {d : Nat → Int} {a m : Int} {t : Nat} (ht : t < 6) (H : eg_All v d a m) : eg_All (v + d t) (fun s => if s = t then 0 else d s) a m := by
  intro b
  have := H (fun s => if s = t then true else b s)
  rw [eg_psx 6, if_pos ht] at this
  omega
theorem eg_AllV {v : Int} {d : Nat → Int} {a m : Int} (H : eg_All v d a m) : a ≤ v ∧ v ≤ m := by
  have := H (fun _ => false)
  rw [eg_ps0] at this
  omega
theorem eg_AllD {v : Int} {d : Nat → Int} {a m : Int} {t : Nat} (ht : t < 6) (H : eg_All v d a m) : a ≤ v + d t ∧ v + d t ≤ m := by
  have := H (fun s => decide (s = t))
  rw [eg_ps1, if_pos ht] at this
  exact this
theorem eg_AllP {v : Int} {d : Nat → Int} {a m : Int} {k : Nat} (hk : k ≤ 6) (H : eg_All v d a m) (b : Nat → Bool) : a ≤ v + eg_ps b d k ∧ v + eg_ps b d k ≤ m := by
  have := H (fun t => b t && decide (t < k))
  rw [eg_psr 6 hk] at this
  exact this
/-! least and greatest sums -/
def eg_lo (d : Nat → Int) : Nat → Int
  | 0 => 0
  | n + 1 => eg_lo d n + (if d n < 0 then d n else 0)
def eg_hi (d : Nat → Int) : Nat → Int
  | 0 => 0
  | n + 1 => eg_hi d n + (if 0 < d n then d n else 0)
theorem eg_loS (d : Nat → Int) (n : Nat) : eg_lo d (n + 1) = eg_lo d n + (if d n < 0 then d n else 0) := rfl
theorem eg_hiS (d : Nat → Int) (n : Nat) : eg_hi d (n + 1) = eg_hi d n + (if 0 < d n then d n else 0) := rfl
theorem eg_psS (b : Nat → Bool) (d : Nat → Int) (n : Nat) : eg_ps b d (n + 1) = eg_ps b d n + (if b n = true then d n else 0) := rfl
theorem eg_lops {b : Nat → Bool} {d : Nat → Int} : ∀ n, eg_lo d n ≤ eg_ps b d n ∧ eg_ps b d n ≤ eg_hi d n
  | 0 => ⟨Int.le_refl _, Int.le_refl _⟩
  | n + 1 => by
    have := eg_lops (b := b) (d := d) n
    rw [eg_loS, eg_hiS, eg_psS]
    split <;> split <;> split <;> omega
theorem eg_lob {d : Nat → Int} : ∀ n, eg_ps (fun t => decide (d t < 0)) d n = eg_lo d n
  | 0 => rfl
  | n + 1 => by
    rw [eg_loS, eg_psS, eg_lob n]
    by_cases h : d n < 0
    · rw [if_pos h, if_pos (decide_eq_true h)]
    · rw [if_neg h, if_neg (show ¬ decide (d n < 0) = true from fun z => h (of_decide_eq_true z))]
theorem eg_hib {d : Nat → Int} : ∀ n, eg_ps (fun t => decide (0 < d t)) d n = eg_hi d n
  | 0 => rfl
  | n + 1 => by
    rw [eg_hiS, eg_psS, eg_hib n]
    by_cases h : 0 < d n
    · rw [if_pos h, if_pos (decide_eq_true h)]
    · rw [if_neg h, if_neg (show ¬ decide (0 < d n) = true from fun z => h (of_decide_eq_true z))]
theorem eg_AllL {v : Int} {d : Nat → Int} {a m : Int} : eg_All v d a m ↔ (a ≤ v + eg_lo d 6 ∧ v + eg_hi d 6 ≤ m) := by
  constructor
  · intro H
    have h1 := H (fun t => decide (d t < 0))
    have h2 := H (fun t => decide (0 < d t))
    rw [eg_lob] at h1
    rw [eg_hib] at h2
    exact ⟨h1.1, h2.2⟩
  · intro H b
    have := eg_lops (b := b) (d := d) 6
    omega
theorem eg_loT {d : Nat → Int} {T : Nat} : ∀ n, T ≤ n → (∀ t, T ≤ t → t < n → d t = 0) → eg_lo d n = eg_lo d T ∧ eg_hi d n = eg_hi d T
  | 0, h, _ => by
    obtain rfl : T = 0 := by omega
    exact ⟨rfl, rfl⟩
  | n + 1, h, hd => by
    by_cases e : T = n + 1
    · subst e; exact ⟨rfl, rfl⟩
    · have := eg_loT (d := d) (T := T) n (by omega) (fun t h1 h2 => hd t h1 (by omega))
      have e0 := hd n (by omega) (by omega)
      rw [eg_loS, eg_hiS, e0, if_neg (show ¬ (0 : Int) < 0 by decide)]
      omega
/-- without u -/
theorem eg_loX {d d' : Nat → Int} {u : Nat} : ∀ n, (∀ t, t < n → d' t = if t = u then 0 else d t) → eg_lo d' n = eg_lo d n - (if u < n ∧ d u < 0 then d u else 0) ∧ eg_hi d' n = eg_hi d n - (if u < n ∧ 0 < d u then d u else 0)
  | 0, _ => by
    rw [if_neg (by omega), if_neg (by omega)]; exact ⟨rfl, rfl⟩
  | n + 1, h => by
    have ih := eg_loX (d := d) (d' := d') (u := u) n (fun t ht => h t (by omega))
    have hn := h n (by omega)
    rw [eg_loS, eg_hiS, eg_loS, eg_hiS, hn]
    by_cases e : n = u
    · subst e
      rw [if_neg (show ¬ (n < n ∧ d n < 0) by omega), if_neg (show ¬ (n < n ∧ 0 < d n) by omega)] at ih
      rw [if_pos rfl]
      simp only [show n < n + 1 by omega, true_and, show ¬ (0 : Int) < 0 by decide, if_false]
      omega
    · rw [if_neg e]
      by_cases h1 : u < n
      · simp only [h1, show u < n + 1 by omega, true_and] at ih ⊢
        omega
      · simp only [h1, show ¬ u < n + 1 by omega, false_and, if_false] at ih ⊢
        omega
/-! the three answers -/
def eg_In (v : Int) (d : Nat → Int) (a m : Int) (b : Nat → Bool) : Prop := a ≤ v + eg_ps b d 6 ∧ v + eg_ps b d 6 ≤ m
def eg_An (v : Int) (d : Nat → Int) (a m : Int) (r : Int32) : Prop :=
  (r = 0 ∧ ∀ b, ¬ eg_In v d a m b) ∨ (r = 1 ∧ ∀ b, eg_In v d a m b) ∨ (r = 2 ∧ ¬ (∀ b, ¬ eg_In v d a m b) ∧ ¬ ∀ b, eg_In v d a m b)
theorem eg_AnU {v : Int} {d : Nat → Int} {a m : Int} {r r' : Int32} (h : eg_An v d a m r) (h' : eg_An v d a m r') : r' = r := by
  rcases h with ⟨e, h⟩ | ⟨e, h⟩ | ⟨e, h1, h2⟩ <;> rcases h' with ⟨e', h'⟩ | ⟨e', h'⟩ | ⟨e', h1', h2'⟩
  · rw [e, e']
  · exact absurd (h' fun _ => false) (h fun _ => false)
  · exact absurd h h1'
  · exact absurd (h fun _ => false) (h' fun _ => false)
  · rw [e, e']
  · exact absurd h h2'
  · exact absurd h' h1
  · exact absurd h' h2
  · rw [e, e']
theorem eg_An1 {v : Int} {d : Nat → Int} {a m : Int} {r : Int32} (h : eg_An v d a m r) : r = 1 ↔ eg_All v d a m := by
  rcases h with ⟨e, h⟩ | ⟨e, h⟩ | ⟨e, h1, h2⟩
  · subst e
    exact ⟨fun z => absurd z (by decide), fun z => absurd (z fun _ => false) (h fun _ => false)⟩
  · exact ⟨fun _ => h, fun _ => e⟩
  · subst e
    exact ⟨fun z => absurd z (by decide), fun z => absurd z h2⟩
/-! masks below 64 are all subsets of six -/
def eg_bm (m t : Nat) : Bool := decide (m / 2 ^ t % 2 = 1)
def eg_mk (b0 b1 b2 b3 b4 b5 : Bool) : Nat := b0.toNat + 2 * b1.toNat + 4 * b2.toNat + 8 * b3.toNat + 16 * b4.toNat + 32 * b5.toNat
theorem eg_bm6 : ∀ b0 b1 b2 b3 b4 b5 : Bool, eg_mk b0 b1 b2 b3 b4 b5 < 64 ∧ eg_bm (eg_mk b0 b1 b2 b3 b4 b5) 0 = b0 ∧ eg_bm (eg_mk b0 b1 b2 b3 b4 b5) 1 = b1 ∧ eg_bm (eg_mk b0 b1 b2 b3 b4 b5) 2 = b2 ∧ eg_bm (eg_mk b0 b1 b2 b3 b4 b5) 3 = b3 ∧ eg_bm (eg_mk b0 b1 b2 b3 b4 b5) 4 = b4 ∧ eg_bm (eg_mk b0 b1 b2 b3 b4 b5) 5 = b5 := by decide +kernel
theorem eg_bmb (b : Nat → Bool) (d : Nat → Int) : ∃ m, m < 64 ∧ eg_ps (eg_bm m) d 6 = eg_ps b d 6 := by
  obtain ⟨hm, h0, h1, h2, h3, h4, h5⟩ := eg_bm6 (b 0) (b 1) (b 2) (b 3) (b 4) (b 5)
  refine ⟨_, hm, eg_psc 6 (fun t ht => ?_)⟩
  have e : eg_bm (eg_mk (b 0) (b 1) (b 2) (b 3) (b 4) (b 5)) t = b t := by
    match t, ht with
    | 0, _ => exact h0
    | 1, _ => exact h1
    | 2, _ => exact h2
    | 3, _ => exact h3
    | 4, _ => exact h4
    | 5, _ => exact h5
  rw [e]
end
section
/-! the set of outcomes as bits; the judgement of a range -/
def eg_Oc (v : Int) (d : Nat → Int) (n : Nat) (x : Int) : Prop := ∃ b : Nat → Bool, x = v + eg_ps b d n
theorem eg_OcS {v : Int} {d : Nat → Int} {n : Nat} {x : Int} : eg_Oc v d (n + 1) x ↔ (eg_Oc v d n x ∨ eg_Oc v d n (x - d n)) := by
  constructor
  · rintro ⟨b, h⟩
    rw [eg_psS] at h
    by_cases hb : b n = true
    · rw [if_pos hb] at h
      exact Or.inr ⟨b, by omega⟩
    · rw [if_neg hb] at h
      exact Or.inl ⟨b, by omega⟩
  · rintro (⟨b, h⟩ | ⟨b, h⟩)
    · refine ⟨fun t => if t = n then false else b t, ?_⟩
      have e1 : eg_ps (fun t => if t = n then false else b t) d n = eg_ps b d n := eg_psc n (fun t ht => by
        show (if (if t = n then false else b t) = true then d t else 0) = _
        rw [if_neg (show ¬ t = n by omega)])
      show x = v + (eg_ps (fun t => if t = n then false else b t) d n + (if (if n = n then false else b n) = true then d n else 0))
      rw [e1, if_pos (show n = n from rfl), if_neg (by decide)]
      omega
    · refine ⟨fun t => if t = n then true else b t, ?_⟩
      have e1 : eg_ps (fun t => if t = n then true else b t) d n = eg_ps b d n := eg_psc n (fun t ht => by
        show (if (if t = n then true else b t) = true then d t else 0) = _
        rw [if_neg (show ¬ t = n by omega)])
      show x = v + (eg_ps (fun t => if t = n then true else b t) d n + (if (if n = n then true else b n) = true then d n else 0))
      rw [e1, if_pos (show n = n from rfl), if_pos rfl]
      omega
theorem eg_OcZ {v : Int} {d : Nat → Int} {n : Nat} {x : Int} (h : d n = 0) : eg_Oc v d (n + 1) x ↔ eg_Oc v d n x := by
  rw [eg_OcS, h, Int.sub_zero]
  exact ⟨fun z => z.elim id id, Or.inl⟩
theorem eg_OcT {v : Int} {d : Nat → Int} {T : Nat} {x : Int} : ∀ n, T ≤ n → (∀ t, T ≤ t → t < n → d t = 0) → (eg_Oc v d n x ↔ eg_Oc v d T x)
  | 0, h, _ => by
    obtain rfl : T = 0 := by omega
    exact Iff.rfl
  | n + 1, h, hd => by
    by_cases e : T = n + 1
    · subst e; exact Iff.rfl
    · rw [eg_OcZ (hd n (by omega) (by omega))]
      exact eg_OcT n (by omega) (fun t h1 h2 => hd t h1 (by omega))
/-- the bits of n are the outcomes of the first s -/
def eg_Bt (n : Nat) (v : Int) (d : Nat → Int) (s : Nat) : Prop := n < 2 ^ 61 ∧ ∀ j : Nat, n.testBit j = true ↔ eg_Oc v d s (j : Int)
theorem eg_BtM {n : Nat} {v : Int} {d : Nat → Int} {s : Nat} (hr : ∀ b, 0 ≤ v + eg_ps b d s ∧ v + eg_ps b d s ≤ 60) (h : ∀ j : Nat, n.testBit j = true → eg_Oc v d s (j : Int)) : n < 2 ^ 61 := by
  apply Nat.lt_pow_two_of_testBit
  intro i hi
  cases e : n.testBit i
  · rfl
  · obtain ⟨b, hb⟩ := h i e
    have := hr b
    omega
theorem eg_Bt0 {a : Nat} {d : Nat → Int} (ha : a ≤ 60) : eg_Bt (2 ^ a) a d 0 := by
  refine ⟨wb_lt2 (by omega), fun j => ?_⟩
  rw [Nat.testBit_two_pow, decide_eq_true_eq]
  constructor
  · intro h
    exact ⟨fun _ => false, by show (j : Int) = a + 0; omega⟩
  · rintro ⟨b, h⟩
    have h2 : (j : Int) = a + 0 := h
    omega
theorem eg_BtZ {n : Nat} {v : Int} {d : Nat → Int} {s : Nat} (h0 : d s = 0) (h : eg_Bt n v d s) : eg_Bt n v d (s + 1) :=
  ⟨h.1, fun j => (h.2 j).trans (eg_OcZ h0).symm⟩
theorem eg_BtN {n k : Nat} {v : Int} {d : Nat → Int} {s : Nat} (hk : d s = -(k : Int)) (hr : ∀ b, 0 ≤ v + eg_ps b d (s + 1) ∧ v + eg_ps b d (s + 1) ≤ 60) (h : eg_Bt n v d s) : eg_Bt (n ||| n / 2 ^ k) v d (s + 1) := by
  have hb : ∀ j : Nat, (n ||| n / 2 ^ k).testBit j = true ↔ eg_Oc v d (s + 1) (j : Int) := by
    intro j
    rw [Nat.testBit_or, Bool.or_eq_true, Nat.testBit_div_two_pow, h.2, h.2, eg_OcS, hk]
    rw [show ((j + k : Nat) : Int) = (j : Int) - -(k : Int) by omega]
  exact ⟨eg_BtM hr (fun j => (hb j).mp), hb⟩
theorem eg_BtP {n k : Nat} {v : Int} {d : Nat → Int} {s : Nat} (hk : d s = (k : Int)) (hr0 : ∀ b, 0 ≤ v + eg_ps b d s ∧ v + eg_ps b d s ≤ 60) (hr : ∀ b, 0 ≤ v + eg_ps b d (s + 1) ∧ v + eg_ps b d (s + 1) ≤ 60) (h : eg_Bt n v d s) : n * 2 ^ k < 2 ^ 61 ∧ eg_Bt (n ||| n * 2 ^ k) v d (s + 1) := by
  have h2 : ∀ j : Nat, (n * 2 ^ k).testBit j = true ↔ eg_Oc v d s ((j : Int) - k) := by
    intro j
    rw [Nat.testBit_mul_two_pow, Bool.and_eq_true, decide_eq_true_eq, h.2]
    constructor
    · rintro ⟨h1, h2⟩
      rw [show ((j : Int) - k) = ((j - k : Nat) : Int) by omega]
      exact h2
    · intro h1
      have h3 : k ≤ j := by
        obtain ⟨b, hb⟩ := h1
        have := hr0 b
        omega
      refine ⟨h3, ?_⟩
      rw [show ((j - k : Nat) : Int) = ((j : Int) - k) by omega]
      exact h1
  have hb : ∀ j : Nat, (n ||| n * 2 ^ k).testBit j = true ↔ eg_Oc v d (s + 1) (j : Int) := by
    intro j
    rw [Nat.testBit_or, Bool.or_eq_true, h2, h.2, eg_OcS, hk]
  refine ⟨eg_BtM (v := v) (d := d) (s := s + 1) hr (fun j hj => ?_), eg_BtM hr (fun j => (hb j).mp), hb⟩
  rw [eg_OcS, hk]
  exact Or.inr ((h2 j).mp hj)
/-- the bits a .. a + k - 1 -/
theorem eg_rng {k a j : Nat} : ((2 ^ k - 1) * 2 ^ a).testBit j = true ↔ (a ≤ j ∧ j < a + k) := by
  rw [Nat.testBit_mul_two_pow, Bool.and_eq_true, decide_eq_true_eq, Nat.testBit_two_pow_sub_one, decide_eq_true_eq]
  omega
theorem eg_and0 {n m : Nat} : n &&& m = 0 ↔ ∀ j, ¬ (n.testBit j = true ∧ m.testBit j = true) := by
  constructor
  · intro h j hj
    have e : (n &&& m).testBit j = true := by rw [Nat.testBit_and, hj.1, hj.2]; rfl
    rw [h, Nat.zero_testBit] at e
    exact absurd e (by decide)
  · intro h
    apply Nat.eq_of_testBit_eq
    intro j
    rw [Nat.testBit_and, Nat.zero_testBit]
    have := h j
    cases e1 : n.testBit j <;> cases e2 : m.testBit j <;> simp_all
theorem eg_andn {n m : Nat} : n &&& m = n ↔ ∀ j, n.testBit j = true → m.testBit j = true := by
  constructor
  · intro h j hj
    rw [← h, Nat.testBit_and, Bool.and_eq_true] at hj
    exact hj.2
  · intro h
    apply Nat.eq_of_testBit_eq
    intro j
    rw [Nat.testBit_and]
    have := h j
    cases e1 : n.testBit j <;> cases e2 : m.testBit j <;> simp_all
/-- what the judgement of the set says; [a, h] is [least, most] cut to [0, limit] -/
theorem eg_jdg {n a k : Nat} {v : Int} {d : Nat → Int} {lo hi : Int} (hB : eg_Bt n v d 6) (hr : ∀ b, eg_In v d lo hi b ↔ ((a : Int) ≤ v + eg_ps b d 6 ∧ v + eg_ps b d 6 < a + k)) (hp : ∀ b, 0 ≤ v + eg_ps b d 6) :
    (n &&& (2 ^ k - 1) * 2 ^ a = 0 ↔ ∀ b, ¬ eg_In v d lo hi b) ∧ (n &&& (2 ^ k - 1) * 2 ^ a = n ↔ ∀ b, eg_In v d lo hi b) := by
  constructor
  · rw [eg_and0]
    constructor
    · intro h b hb
      have h1 := hp b
      have h2 := (hr b).mp hb
      obtain ⟨j, hj⟩ : ∃ j : Nat, (j : Int) = v + eg_ps b d 6 := ⟨(v + eg_ps b d 6).toNat, by omega⟩
      exact h j ⟨(hB.2 j).mpr ⟨b, hj⟩, eg_rng.mpr (by omega)⟩
    · intro h j hj
      obtain ⟨b, hb⟩ := (hB.2 j).mp hj.1
      have h2 := eg_rng.mp hj.2
      exact h b ((hr b).mpr (by omega))
  · rw [eg_andn]
    constructor
    · intro h b
      have h1 := hp b
      obtain ⟨j, hj⟩ : ∃ j : Nat, (j : Int) = v + eg_ps b d 6 := ⟨(v + eg_ps b d 6).toNat, by omega⟩
      have h2 := eg_rng.mp (h j ((hB.2 j).mpr ⟨b, hj⟩))
      exact (hr b).mpr (by omega)
    · intro h j hj
      obtain ⟨b, hb⟩ := (hB.2 j).mp hj
      have h2 := (hr b).mp (h b)
      exact eg_rng.mpr (by omega)
end
section
/-! X: the outcomes as bits, and the judgement -/
def eg_d (S N : Nat → Int32) (c : Nat) (w : Int32) (t : Nat) : Int := if S t = 0 then 0 else if nI t = w then 0 else (N (t * 6 + c)).toInt
theorem eg_z32 : (0 : Int32).toInt = 0 := by decide
theorem eg_lt0 {x : Int32} : x < 0 ↔ x.toInt < 0 := by rw [Int32.lt_iff_toInt_lt, eg_z32]
theorem eg_ge0 {x : Int32} : 0 ≤ x ↔ 0 ≤ x.toInt := by rw [Int32.le_iff_toInt_le, eg_z32]
theorem eg_le0 {x : Int32} : x ≤ 0 ↔ x.toInt ≤ 0 := by rw [Int32.le_iff_toInt_le, eg_z32]
theorem eg_add {x y : Int32} (h1 : -2147483648 ≤ x.toInt + y.toInt) (h2 : x.toInt + y.toInt < 2147483648) : (x + y).toInt = x.toInt + y.toInt := by
  rw [Int32.toInt_add]
  exact Int.bmod_eq_of_le (by omega) (by omega)
theorem eg_sub {x y : Int32} (h1 : -2147483648 ≤ x.toInt - y.toInt) (h2 : x.toInt - y.toInt < 2147483648) : (x - y).toInt = x.toInt - y.toInt := by
  rw [Int32.toInt_sub]
  exact Int.bmod_eq_of_le (by omega) (by omega)
theorem eg_pos {x : Int32} {k : Nat} (h : x.toInt = (k : Int)) (hk : k < 2 ^ 31) : x = nI k := Int32.toInt_inj.mp (by rw [h, nI_toInt hk])
theorem eg_neg {x : Int32} {k : Nat} (h : x.toInt = -(k : Int)) (hk : k < 2 ^ 31) : -x = nI k := by
  apply Int32.toInt_inj.mp
  rw [Int32.toInt_neg, h, nI_toInt hk, Int.neg_neg]
  exact Int.bmod_eq_of_le (by omega) (by omega)
section
variable {C T L R z kp lf : Nat} {up : Int32} {va st ne gl gm ek es en : Nat → Int32}
theorem eg_xoc {post : Int64 → Prop} {c : Nat} {w : Int32} {v : Int} {d : Nat → Int} (hT : T ≤ 6) (hc : c < 6) (hd : ∀ t, t < 6 → d t = eg_d st ne c w t) (hA : eg_All v d 0 60) (K : ∀ n, eg_Bt n v d T → post (lN n)) :
    ∀ m s n, s + m = T → eg_Bt n v d s → wX_outcomes_12 post (nI c) w 0 1 2 0 1 2 0 1 (nI C) (nI T) (nI L) (nI R) (nI z) (nI kp) up (nI lf) va st ne gl gm ek es en (m + 1) (lN n) (nI s) := by
  intro m
  induction m with
  | zero =>
    intro s n hs hB
    obtain rfl : s = T := by omega
    exact br_t (nI_le (Nat.le_refl _) (by omega)) (K n hB)
  | succ m ih =>
    intro s n hs hB
    have hds := hd s (by omega)
    unfold eg_d at hds
    have hv : vp_in (nI s) 12 := vp_in_nI (by omega) (by omega)
    have cs : (nI s).toNatClampNeg = s := nI_clamp (by omega)
    have hrng := eg_AllV hA
    have hrd := eg_AllD (t := s) (by omega) hA
    refine br_f (nI_ge (by omega) (by omega)) (br_c (fun e => nm_r (nI_1 s) (ih (s + 1) n (by omega) (eg_BtZ ?_ hB))) (fun e => ⟨hv, br_c (fun e0 => nm_r (nI_1 s) (ih (s + 1) n (by omega) (eg_BtZ ?_ hB))) (fun e0 => ⟨eg_in (by omega) (by omega), nm_r (e' := ne (s * 6 + c)) (by rw [eg_cl (by omega)]) (br_c (fun hneg => ?_) (fun hpos => ?_))⟩)⟩))
    · rw [hds, if_pos e]
      split <;> rfl
    · rw [cs] at e0
      rw [hds, if_pos e0]
    · rw [cs] at e0
      rw [if_neg e0, if_neg e] at hds
      rw [eg_lt0] at hneg
      obtain ⟨k, hk⟩ : ∃ k : Nat, (k : Int) = -(ne (s * 6 + c)).toInt := ⟨(-(ne (s * 6 + c)).toInt).toNat, by omega⟩
      have hk6 : k ≤ 60 := by omega
      have hn := hB.1
      have hq : n / 2 ^ k < 2 ^ 64 := Nat.lt_of_le_of_lt (Nat.div_le_self _ _) (by omega)
      refine nm_r (e' := lN (n ||| n / 2 ^ k)) ?_ (nm_r (nI_1 s) (ih (s + 1) _ (by omega) (eg_BtN (by omega) (fun b => eg_AllP (by omega) hA b) hB)))
      rw [eg_neg (k := k) (by omega) (by omega), wb_shr (by omega) (by omega), wb_or (by omega) hq]
    · rw [cs] at e0
      rw [if_neg e0, if_neg e] at hds
      rw [eg_lt0] at hpos
      obtain ⟨k, hk⟩ : ∃ k : Nat, (k : Int) = (ne (s * 6 + c)).toInt := ⟨((ne (s * 6 + c)).toInt).toNat, by omega⟩
      have hk6 : k ≤ 60 := by omega
      have hn := hB.1
      obtain ⟨hq, hB'⟩ := eg_BtP (k := k) (by omega) (fun b => eg_AllP (by omega) hA b) (fun b => eg_AllP (by omega) hA b) hB
      refine nm_r (e' := lN (n ||| n * 2 ^ k)) ?_ (nm_r (nI_1 s) (ih (s + 1) _ (by omega) hB'))
      rw [eg_pos (k := k) hk.symm (by omega), wb_shl _ (by omega), wb_or (by omega) (by omega)]
theorem eg_xj29 {post : Int32 → Prop} {n : Nat} {v : Int} {d : Nat → Int} {lo hi : Int} {x5 z0 : Int32} (h5 : 0 ≤ x5.toInt) (hz : z0.toInt ≤ 60) (hB : eg_Bt n v d 6) (hr : ∀ b, eg_In v d lo hi b ↔ (x5.toInt ≤ v + eg_ps b d 6 ∧ v + eg_ps b d 6 ≤ z0.toInt)) (hp : ∀ b, 0 ≤ v + eg_ps b d 6) (K : ∀ r, eg_An v d lo hi r → post r) :
    wX_judge_29 post (lN n) x5 z0 0 1 2 0 1 2 0 1 (nI C) (nI T) (nI L) (nI R) (nI z) (nI kp) up (nI lf) va st ne gl gm ek es en := by
  by_cases h : x5 ≤ z0
  · have h2 := h
    rw [Int32.le_iff_toInt_le] at h2
    obtain ⟨a, ha⟩ : ∃ a : Nat, (a : Int) = x5.toInt := ⟨x5.toInt.toNat, by omega⟩
    obtain ⟨k, hk⟩ : ∃ k : Nat, ((a + k : Nat) : Int) = z0.toInt := ⟨(z0.toInt - x5.toInt).toNat, by omega⟩
    have ea : x5 = nI a := eg_pos ha.symm (by omega)
    have ek : z0 = nI (a + k) := eg_pos hk.symm (by omega)
    have hn := hB.1
    have hak : a + k ≤ 60 := by omega
    have J := eg_jdg (a := a) (k := k + 1) hB (fun b => (hr b).trans (by omega)) hp
    have hw : (2 ^ (k + 1) - 1) * 2 ^ a < 2 ^ 61 := by
      apply Nat.lt_pow_two_of_testBit
      intro i hi
      cases e : ((2 ^ (k + 1) - 1) * 2 ^ a).testBit i
      · rfl
      · have := eg_rng.mp e
        omega
    have hi : n &&& (2 ^ (k + 1) - 1) * 2 ^ a < 2 ^ 61 := Nat.and_lt_two_pow _ hw
    refine br_t h (nm_r (e' := lN ((2 ^ (k + 1) - 1) * 2 ^ a)) ?_ (nm_r (e' := lN (n &&& (2 ^ (k + 1) - 1) * 2 ^ a)) (wb_and (by omega) (by omega)) ?_))
    · have e1 : z0 - x5 + 1 = nI (k + 1) := by
        rw [ea, ek, pk_sub (by omega), nI_1]
        exact congrArg nI (by omega)
      have e2 : (1 : Int64) <<< ((nI (k + 1)).toInt64 &&& 63) = lN (2 ^ (k + 1)) := by
        have := wb_shl 1 (k := k + 1) (by omega)
        rw [Nat.one_mul] at this
        exact this
      have e3 : lN (2 ^ (k + 1)) - 1 = lN (2 ^ (k + 1) - 1) := lN_sub (b := 1) (Nat.one_le_two_pow)
      rw [e1, e2, e3, ea, wb_shl _ (by omega)]
    · generalize hN : n &&& (2 ^ (k + 1) - 1) * 2 ^ a = N at hi J ⊢
      by_cases h0 : N = 0
      · exact br_t (by rw [h0]; rfl) (K 0 (Or.inl ⟨rfl, J.1.mp h0⟩))
      · have n0 : ¬ lN N = 0 := fun z => h0 ((pk_lEQ (b := 0) (by omega) (by omega)).mp z)
        by_cases h1 : N = n
        · exact br_f n0 (br_t (congrArg lN h1) (K 1 (Or.inr (Or.inl ⟨rfl, J.2.mp h1⟩))))
        · have n1 : ¬ lN N = lN n := fun z => h1 ((pk_lEQ (by omega) (by omega)).mp z)
          exact br_f n0 (br_f n1 (K 2 (Or.inr (Or.inr ⟨rfl, fun z => h0 (J.1.mpr z), fun z => h1 (J.2.mpr z)⟩))))
  · have h2 := h
    rw [Int32.le_iff_toInt_le] at h2
    refine br_f h (K 0 (Or.inl ⟨rfl, fun b hb => ?_⟩))
    have := (hr b).mp hb
    omega
theorem eg_xj {post : Int32 → Prop} {n : Nat} {v : Int} {d : Nat → Int} {lo hi : Int32} (hL : L ≤ 60) (hA : eg_All v d 0 L) (hB : eg_Bt n v d 6) (K : ∀ r, eg_An v d lo.toInt hi.toInt r → post r) :
    wpX_judge post (0, 1, 2, 0, 1, 2, 0, 1, nI C, nI T, nI L, nI R, nI z, nI kp, up, nI lf, va, st, ne, gl, gm, ek, es, en) (lN n) lo hi := by
  have hl : (nI L).toInt = (L : Int) := nI_toInt (by omega)
  have hp : ∀ b, 0 ≤ v + eg_ps b d 6 := fun b => (hA b).1
  refine br_c (fun h => br_c (fun h2 => ?_) (fun h2 => ?_)) (fun h => br_c (fun h2 => ?_) (fun h2 => ?_))
  · rw [eg_ge0] at h
    rw [Int32.le_iff_toInt_le, hl] at h2
    exact eg_xj29 h (by omega) hB (fun b => Iff.rfl) hp K
  · rw [eg_ge0] at h
    rw [Int32.le_iff_toInt_le, hl] at h2
    refine eg_xj29 h (by omega) hB (fun b => ?_) hp K
    have := hA b
    unfold eg_In
    omega
  · rw [eg_ge0] at h
    rw [Int32.le_iff_toInt_le, hl] at h2
    refine eg_xj29 (by decide) (by omega) hB (fun b => ?_) hp K
    have := hA b
    rw [eg_z32]
    unfold eg_In
    omega
  · rw [eg_ge0] at h
    rw [Int32.le_iff_toInt_le, hl] at h2
    refine eg_xj29 (by decide) (by omega) hB (fun b => ?_) hp K
    have := hA b
    rw [eg_z32]
    unfold eg_In
    omega
theorem eg_xoj {post : Int32 → Prop} {c : Nat} {w lo hi : Int32} {d : Nat → Int} (hc : c < 6) (hT : T ≤ 6) (hL : L ≤ 60) (hd : ∀ t, t < 6 → d t = eg_d st ne c w t) (hz : ∀ t, T ≤ t → t < 6 → d t = 0) (hA : eg_All (va c).toInt d 0 L) (K : ∀ r, eg_An (va c).toInt d lo.toInt hi.toInt r → post r) :
    wpX_outcomes (fun r => wpX_judge post (0, 1, 2, 0, 1, 2, 0, 1, nI C, nI T, nI L, nI R, nI z, nI kp, up, nI lf, va, st, ne, gl, gm, ek, es, en) r lo hi) (0, 1, 2, 0, 1, 2, 0, 1, nI C, nI T, nI L, nI R, nI z, nI kp, up, nI lf, va, st, ne, gl, gm, ek, es, en) (nI c) w := by
  have hV := eg_AllV hA
  have hA6 : eg_All (va c).toInt d 0 60 := fun b => by have := hA b; omega
  obtain ⟨a, ha⟩ : ∃ a : Nat, (a : Int) = (va c).toInt := ⟨(va c).toInt.toNat, by omega⟩
  have ea : va c = nI a := eg_pos ha.symm (by omega)
  have cc : (nI c).toNatClampNeg = c := nI_clamp (by omega)
  have e2 : (1 : Int64) <<< ((va (nI c).toNatClampNeg).toInt64 &&& 63) = lN (2 ^ a) := by
    have := wb_shl 1 (k := a) (by omega)
    rw [Nat.one_mul] at this
    rw [cc, ea]
    exact this
  refine ⟨vp_in_nI (by omega) (by omega), nm_r e2 ⟨T + 1, ?_⟩⟩
  refine eg_xoc (v := (va c).toInt) (d := d) hT hc hd hA6 (fun n hB => ?_) T 0 (2 ^ a) (by omega) (by rw [← ha]; exact eg_Bt0 (by omega))
  exact eg_xj hL hA ⟨hB.1, fun j => (hB.2 j).trans (eg_OcT 6 hT hz).symm⟩ K
end
end
section
/-! Y: the verdict over all 64 subsets -/
theorem eg_bit : ∀ mk, mk < 64 → ∀ t, t < 6 → (((nI mk >>> (nI t &&& 31)) &&& 1) = 1 ↔ eg_bm mk t = true) := by decide +kernel
theorem eg_psb {b : Nat → Bool} {d : Nat → Int} : ∀ n : Nat, (∀ t, t < n → -1000 ≤ d t ∧ d t ≤ 1000) → -(1000 * (n : Int)) ≤ eg_ps b d n ∧ eg_ps b d n ≤ 1000 * (n : Int)
  | 0, _ => ⟨by show _ ≤ (0 : Int); omega, by show (0 : Int) ≤ _; omega⟩
  | n + 1, h => by
    have ih := eg_psb (b := b) (d := d) n (fun t ht => h t (by omega))
    have hn := h n (by omega)
    rw [eg_psS]
    split <;> omega
section
variable {C T L R z kp lf : Nat} {up : Int32} {ek es nt bV bS bN ac aN yl ym nV nS nN : Nat → Int32}
theorem eg_yv24 {post : Int32 → Prop} {J6 : Int32 → Int32 → Prop} {c mk : Nat} {w lo hi x5 : Int32} {v : Int} {d : Nat → Int} (hm : mk < 64) (hc : c < 6) (hd : ∀ t, t < 6 → d t = eg_d nS nN c w t) (hv : -1000 ≤ v ∧ v ≤ 1000) (hb : ∀ t, t < 6 → -1000 ≤ d t ∧ d t ≤ 1000)
    (KN : ¬ eg_In v d lo.toInt hi.toInt (eg_bm mk) → J6 x5 (nI (mk + 1))) (KY : eg_In v d lo.toInt hi.toInt (eg_bm mk) → J6 (x5 + 1) (nI (mk + 1))) :
    ∀ m t (x7 : Int32), t + m = 6 → x7.toInt = v + eg_ps (eg_bm mk) d t → wY_verdict_24 post J6 (nI c) w lo hi x5 (nI mk) (nI C) (nI T) (nI L) (nI R) up (nI lf) (nI z) (nI kp) ek es nt bV bS bN ac aN yl ym nV nS nN (m + 1) x7 (nI t) := by
  intro m
  induction m with
  | zero =>
    intro t x7 ht h7
    obtain rfl : t = 6 := by omega
    refine br_t (nI_le (Nat.le_refl 6) (by omega)) (br_c (fun h => ?_) (fun h => br_c (fun h2 => ?_) (fun h2 => ?_)))
    · rw [Int32.lt_iff_toInt_lt, h7] at h
      refine nm_r (nI_1 mk) (KN (fun z => ?_))
      have := z.1
      omega
    · rw [Int32.lt_iff_toInt_lt, h7] at h2
      refine nm_r (nI_1 mk) (KN (fun z => ?_))
      have := z.2
      omega
    · rw [Int32.lt_iff_toInt_lt, h7] at h h2
      exact nm_e (nm_r (nI_1 mk) (KY ⟨by omega, by omega⟩))
  | succ m ih =>
    intro t x7 ht h7
    have hdt := hd t (by omega)
    unfold eg_d at hdt
    have ct : (nI t).toNatClampNeg = t := nI_clamp (by omega)
    have hB := eg_bit mk hm t (by omega)
    have hps := eg_psb (b := eg_bm mk) (d := d) t (fun s hs => hb s (by omega))
    have hbt := hb t (by omega)
    have hS := eg_psS (eg_bm mk) d t
    refine br_f (nI_ge (b := 6) (by omega) (by omega)) (br_c (fun e => ⟨vp_in_nI (by omega) (by omega), br_c (fun e0 => nm_r (nI_1 t) (ih (t + 1) x7 (by omega) ?_)) (fun e0 => br_c (fun ew => nm_r (nI_1 t) (ih (t + 1) x7 (by omega) ?_)) (fun ew => ⟨eg_in (by omega) (by omega), nm_r (e' := x7 + nN (t * 6 + c)) (by rw [eg_cl (by omega)]) (nm_r (nI_1 t) (ih (t + 1) _ (by omega) ?_))⟩))⟩) (fun e => nm_r (nI_1 t) (ih (t + 1) x7 (by omega) ?_)))
    · rw [ct] at e0
      rw [if_pos e0] at hdt
      rw [hdt] at hS
      rw [h7, hS]
      split <;> omega
    · rw [ct] at e0
      rw [if_neg e0, if_pos ew] at hdt
      rw [hdt] at hS
      rw [h7, hS]
      split <;> omega
    · rw [ct] at e0
      rw [if_neg e0, if_neg ew] at hdt
      rw [if_pos (hB.mp e)] at hS
      rw [eg_add (by omega) (by omega), h7, hS, hdt]
      omega
    · rw [if_neg (fun z => e (hB.mpr z))] at hS
      rw [h7, hS]
      omega
theorem eg_yv6 {post : Int32 → Prop} {c : Nat} {w lo hi : Int32} {d : Nat → Int} (hc : c < 6) (hd : ∀ t, t < 6 → d t = eg_d nS nN c w t) (hv : -1000 ≤ (nV c).toInt ∧ (nV c).toInt ≤ 1000) (hb : ∀ t, t < 6 → -1000 ≤ d t ∧ d t ≤ 1000)
    (K : ∀ r, eg_An (nV c).toInt d lo.toInt hi.toInt r → post r) :
    ∀ m mk k, mk + m = 64 → k ≤ mk → (k = 0 ↔ ∀ i, i < mk → ¬ eg_In (nV c).toInt d lo.toInt hi.toInt (eg_bm i)) → (k = mk ↔ ∀ i, i < mk → eg_In (nV c).toInt d lo.toInt hi.toInt (eg_bm i)) → wY_verdict_6 post (nI c) w lo hi (nI C) (nI T) (nI L) (nI R) up (nI lf) (nI z) (nI kp) ek es nt bV bS bN ac aN yl ym nV nS nN (m + 1) (nI k) (nI mk) := by
  intro m
  induction m with
  | zero =>
    intro mk k hmk hk h0 h1
    obtain rfl : mk = 64 := by omega
    have a0 : (∀ i, i < 64 → ¬ eg_In (nV c).toInt d lo.toInt hi.toInt (eg_bm i)) ↔ ∀ b, ¬ eg_In (nV c).toInt d lo.toInt hi.toInt b := by
      refine ⟨fun h b hb' => ?_, fun h i _ => h _⟩
      obtain ⟨i, hi', e⟩ := eg_bmb b d
      refine h i hi' ?_
      unfold eg_In at hb' ⊢
      rw [e]
      exact hb'
    have a1 : (∀ i, i < 64 → eg_In (nV c).toInt d lo.toInt hi.toInt (eg_bm i)) ↔ ∀ b, eg_In (nV c).toInt d lo.toInt hi.toInt b := by
      refine ⟨fun h b => ?_, fun h i _ => h _⟩
      obtain ⟨i, hi', e⟩ := eg_bmb b d
      have := h i hi'
      unfold eg_In at this ⊢
      rw [← e]
      exact this
    rw [a0] at h0
    rw [a1] at h1
    exact br_t (nI_le (Nat.le_refl 64) (by omega)) (pk_eq k 0 (fun e => K 0 (Or.inl ⟨rfl, h0.mp e⟩)) (fun e => pk_eq k 64 (fun e1 => K 1 (Or.inr (Or.inl ⟨rfl, h1.mp e1⟩))) (fun e1 => K 2 (Or.inr (Or.inr ⟨rfl, fun z => e (h0.mpr z), fun z => e1 (h1.mpr z)⟩)))))
  | succ m ih =>
    intro mk k hmk hk h0 h1
    have cc : (nI c).toNatClampNeg = c := nI_clamp (by omega)
    refine br_f (nI_ge (b := 64) (by omega) (by omega)) ⟨vp_in_nI hc (by omega), nm_r (e' := nV c) (by rw [cc]) ⟨7, eg_yv24 (v := (nV c).toInt) (d := d) (by omega) hc hd hv hb (fun hn => ?_) (fun hy => ?_) 6 0 (nV c) rfl (by show _ = _ + (0 : Int); omega)⟩⟩
    · refine ih (mk + 1) k (by omega) (by omega) ⟨fun e i hi' => ?_, fun h => h0.mpr (fun i hi' => h i (by omega))⟩ ⟨fun e => by omega, fun h => absurd (h mk (by omega)) hn⟩
      by_cases e2 : i = mk
      · rw [e2]; exact hn
      · exact h0.mp e i (by omega)
    · rw [nI_1 k]
      refine ih (mk + 1) (k + 1) (by omega) (by omega) ⟨fun e => by omega, fun h => absurd hy (h mk (by omega))⟩ ⟨fun e i hi' => ?_, fun h => ?_⟩
      · by_cases e2 : i = mk
        · rw [e2]; exact hy
        · exact h1.mp (by omega) i (by omega)
      · have := h1.mpr (fun i hi' => h i (by omega))
        omega
theorem eg_yv {post : Int32 → Prop} {c : Nat} {w lo hi : Int32} {d : Nat → Int} (hc : c < 6) (hd : ∀ t, t < 6 → d t = eg_d nS nN c w t) (hv : -1000 ≤ (nV c).toInt ∧ (nV c).toInt ≤ 1000) (hb : ∀ t, t < 6 → -1000 ≤ d t ∧ d t ≤ 1000)
    (K : ∀ r, eg_An (nV c).toInt d lo.toInt hi.toInt r → post r) : wpY_verdict post (nI C, nI T, nI L, nI R, up, nI lf, nI z, nI kp, ek, es, nt, bV, bS, bN, ac, aN, yl, ym, nV, nS, nN) (nI c) w lo hi :=
  ⟨65, eg_yv6 hc hd hv hb K 64 0 0 rfl (Nat.le_refl _) ⟨fun _ i h => absurd h (by omega), fun _ => rfl⟩ ⟨fun _ i h => absurd h (by omega), fun _ => rfl⟩⟩
end
end
section
/-! X: isSafe by its least and greatest outcome -/
theorem eg_lhb {d : Nat → Int} : ∀ n : Nat, (∀ t, t < n → -1000 ≤ d t ∧ d t ≤ 1000) → -(1000 * (n : Int)) ≤ eg_lo d n ∧ eg_lo d n ≤ 0 ∧ 0 ≤ eg_hi d n ∧ eg_hi d n ≤ 1000 * (n : Int)
  | 0, _ => ⟨by show _ ≤ (0 : Int); omega, by show (0 : Int) ≤ _; omega, by show _ ≤ (0 : Int); omega, by show (0 : Int) ≤ _; omega⟩
  | n + 1, h => by
    have ih := eg_lhb (d := d) n (fun t ht => h t (by omega))
    have hn := h n (by omega)
    rw [eg_loS, eg_hiS]
    split <;> split <;> omega
section
variable {C T L R z kp lf : Nat} {up : Int32} {va st ne gl gm ek es en : Nat → Int32}
theorem eg_xs60 {post : Int32 → Prop} {J19 : Int32 → Int32 → Int32 → Prop} {a1 a2 a3 x4 x5 g : Int32} {s : Nat} (hg : -1000 ≤ g.toInt ∧ g.toInt ≤ 1000) (h4 : -100000 ≤ x4.toInt ∧ x4.toInt ≤ 100000) (h5 : -100000 ≤ x5.toInt ∧ x5.toInt ≤ 100000)
    (K : ∀ y4 y5 : Int32, y4.toInt = x4.toInt + (if g.toInt < 0 then g.toInt else 0) → y5.toInt = x5.toInt + (if 0 < g.toInt then g.toInt else 0) → J19 y4 y5 (nI (s + 1))) :
    wX_isSafe_60 post J19 a1 a2 a3 x4 x5 (nI s) g 0 1 2 0 1 2 0 1 (nI C) (nI T) (nI L) (nI R) (nI z) (nI kp) up (nI lf) va st ne gl gm ek es en := by
  have e0 : ∀ y : Int32, (y + 0).toInt = y.toInt + 0 := fun y => by rw [Int32.add_zero, Int.add_zero]
  refine br_c (fun h => ?_) (fun h => ?_)
  · rw [eg_ge0] at h
    refine nm_e (br_c (fun h2 => ?_) (fun h2 => ?_))
    · rw [eg_le0] at h2
      refine nm_e (nm_r (nI_1 s) (K _ _ ?_ ?_))
      · rw [e0, if_neg (by omega)]
      · rw [e0, if_neg (by omega)]
    · rw [eg_le0] at h2
      refine nm_e (nm_r (nI_1 s) (K _ _ ?_ ?_))
      · rw [e0, if_neg (by omega)]
      · rw [eg_add (by omega) (by omega), if_pos (by omega)]
  · rw [eg_ge0] at h
    refine nm_e (br_c (fun h2 => ?_) (fun h2 => ?_))
    · rw [eg_le0] at h2
      refine nm_e (nm_r (nI_1 s) (K _ _ ?_ ?_))
      · rw [eg_add (by omega) (by omega), if_pos (by omega)]
      · rw [e0, if_neg (by omega)]
    · rw [eg_le0] at h2
      exact absurd h2 (by omega)
theorem eg_xs19 {post : Int32 → Prop} {t c : Nat} {nx : Int32} {v : Int} {d : Nat → Int} (ht : t < 6) (hT : T ≤ 6) (hc : c < 6) (hL : L ≤ 60) (hd : ∀ s, s < 6 → d s = if st s = 0 then 0 else if s = t then nx.toInt else (ne (s * 6 + c)).toInt) (hv : -1000 ≤ v ∧ v ≤ 1000) (hb : ∀ s, s < 6 → -1000 ≤ d s ∧ d s ≤ 1000)
    (K0 : ¬ (0 ≤ v + eg_lo d T ∧ v + eg_hi d T ≤ L) → post 0) (K1 : (0 ≤ v + eg_lo d T ∧ v + eg_hi d T ≤ L) → ∀ x4 x5 : Int32, x4.toInt = v + eg_lo d T → x5.toInt = v + eg_hi d T → ∃ n, wX_isSafe_119 post (nI t) (nI c) x4 x5 0 1 2 0 1 2 0 1 (nI C) (nI T) (nI L) (nI R) (nI z) (nI kp) up (nI lf) va st ne gl gm ek es en n 0) :
    ∀ m s (x4 x5 : Int32), s + m = T → x4.toInt = v + eg_lo d s → x5.toInt = v + eg_hi d s → wX_isSafe_19 post (nI t) (nI c) nx 0 1 2 0 1 2 0 1 (nI C) (nI T) (nI L) (nI R) (nI z) (nI kp) up (nI lf) va st ne gl gm ek es en (m + 1) x4 x5 (nI s) := by
  intro m
  induction m with
  | zero =>
    intro s x4 x5 hs h4 h5
    obtain rfl : s = T := by omega
    have hl : (nI L).toInt = (L : Int) := nI_toInt (by omega)
    refine br_t (nI_le (Nat.le_refl _) (by omega)) (br_c (fun h => K0 (fun z => ?_)) (fun h => br_c (fun h2 => K1 ?_ x4 x5 h4 h5) (fun h2 => K0 (fun z => ?_))))
    · rw [eg_lt0] at h
      omega
    · rw [eg_lt0] at h
      rw [Int32.le_iff_toInt_le, hl] at h2
      omega
    · rw [Int32.le_iff_toInt_le, hl] at h2
      omega
  | succ m ih =>
    intro s x4 x5 hs h4 h5
    have hds := hd s (by omega)
    have hbs := hb s (by omega)
    have hbn := eg_lhb (d := d) s (fun r hr => hb r (by omega))
    have cs : (nI s).toNatClampNeg = s := nI_clamp (by omega)
    refine br_f (nI_ge (by omega) (by omega)) ⟨vp_in_nI (by omega) (by omega), br_c (fun e0 => nm_r (nI_1 s) (ih (s + 1) x4 x5 (by omega) ?_ ?_)) (fun e0 => br_c (fun e => ?_) (fun e => ⟨eg_in (by omega) (by omega), ?_⟩))⟩
    · rw [cs] at e0
      rw [if_pos e0] at hds
      rw [h4, eg_loS, hds, if_neg (by decide)]
      omega
    · rw [cs] at e0
      rw [if_pos e0] at hds
      rw [h5, eg_hiS, hds, if_neg (by decide)]
      omega
    · rw [cs] at e0
      rw [nI_eq (by omega) (by omega)] at e
      rw [if_neg e0, if_pos e] at hds
      refine eg_xs60 (by omega) (by omega) (by omega) (fun y4 y5 g4 g5 => ih (s + 1) y4 y5 (by omega) ?_ ?_)
      · rw [g4, h4, eg_loS, hds]
        omega
      · rw [g5, h5, eg_hiS, hds]
        omega
    · rw [cs] at e0
      rw [nI_eq (by omega) (by omega)] at e
      rw [if_neg e0, if_neg e] at hds
      rw [eg_cl (by omega)]
      refine eg_xs60 (by omega) (by omega) (by omega) (fun y4 y5 g4 g5 => ih (s + 1) y4 y5 (by omega) ?_ ?_)
      · rw [g4, h4, eg_loS, hds]
        omega
      · rw [g5, h5, eg_hiS, hds]
        omega
theorem eg_xh36 {post : Int32 → Prop} {i : Nat} {x y : Int32} (hi : i < 36) (K1 : (gl i).toInt ≤ x.toInt ∧ y.toInt ≤ (gm i).toInt → post 1) (K0 : ¬ ((gl i).toInt ≤ x.toInt ∧ y.toInt ≤ (gm i).toInt) → post 0) :
    wX_holds_36 post (nI i) x y 0 1 2 0 1 2 0 1 (nI C) (nI T) (nI L) (nI R) (nI z) (nI kp) up (nI lf) va st ne gl gm ek es en := by
  have ci : (nI i).toNatClampNeg = i := nI_clamp (by omega)
  have hv : vp_in (nI i) 36 := vp_in_nI hi (by omega)
  refine ⟨hv, br_c (fun h => K0 (fun z => ?_)) (fun h => ⟨hv, br_c (fun h2 => K0 (fun z => ?_)) (fun h2 => K1 ?_)⟩)⟩
  · rw [ci, Int32.lt_iff_toInt_lt] at h
    omega
  · rw [ci, Int32.lt_iff_toInt_lt] at h2
    omega
  · rw [ci, Int32.lt_iff_toInt_lt] at h h2
    omega
theorem eg_xh {post : Int32 → Prop} {i : Nat} {x4 x5 : Int32} (hi : i < 36) (ho : -1000 ≤ (ne i).toInt ∧ (ne i).toInt ≤ 1000) (h4 : -100000 ≤ x4.toInt ∧ x4.toInt ≤ 100000) (h5 : -100000 ≤ x5.toInt ∧ x5.toInt ≤ 100000)
    (K1 : (gl i).toInt ≤ x4.toInt - (if (ne i).toInt < 0 then (ne i).toInt else 0) ∧ x5.toInt - (if 0 < (ne i).toInt then (ne i).toInt else 0) ≤ (gm i).toInt → post 1)
    (K0 : ¬ ((gl i).toInt ≤ x4.toInt - (if (ne i).toInt < 0 then (ne i).toInt else 0) ∧ x5.toInt - (if 0 < (ne i).toInt then (ne i).toInt else 0) ≤ (gm i).toInt) → post 0) :
    wpX_holds post (0, 1, 2, 0, 1, 2, 0, 1, nI C, nI T, nI L, nI R, nI z, nI kp, up, nI lf, va, st, ne, gl, gm, ek, es, en) (nI i) x4 x5 := by
  have ci : (nI i).toNatClampNeg = i := nI_clamp (by omega)
  refine ⟨vp_in_nI (by omega) (by omega), nm_r (e' := ne i) (by rw [ci]) (br_c (fun h => br_c (fun h2 => ?_) (fun h2 => ?_)) (fun h => br_c (fun h2 => ?_) (fun h2 => ?_)))⟩
  · rw [eg_ge0] at h
    rw [eg_le0] at h2
    rw [if_neg (by omega), if_neg (by omega), Int.sub_zero, Int.sub_zero] at K1 K0
    exact eg_xh36 hi K1 K0
  · rw [eg_ge0] at h
    rw [eg_le0] at h2
    rw [if_neg (by omega), if_pos (by omega), Int.sub_zero] at K1 K0
    have e := eg_sub (x := x5) (y := ne i) (by omega) (by omega)
    exact eg_xh36 hi (by rw [e]; exact K1) (by rw [e]; exact K0)
  · rw [eg_ge0] at h
    rw [eg_le0] at h2
    rw [if_pos (by omega), if_neg (by omega), Int.sub_zero] at K1 K0
    have e := eg_sub (x := x4) (y := ne i) (by omega) (by omega)
    exact eg_xh36 hi (by rw [e]; exact K1) (by rw [e]; exact K0)
  · rw [eg_ge0] at h
    rw [eg_le0] at h2
    exact absurd h2 (by omega)
/-- the guard of u, over the sums without u -/
def eg_G (v : Int) (d : Nat → Int) (gl gm : Nat → Int32) (c u : Nat) : Prop := eg_All v (fun r => if r = u then 0 else d r) (gl (u * 6 + c)).toInt (gm (u * 6 + c)).toInt
theorem eg_xs119 {post : Int32 → Prop} {t c : Nat} {x4 x5 : Int32} {v : Int} {d : Nat → Int} (ht : t < 6) (hT : T ≤ 6) (hc : c < 6) (hd : ∀ s, s < 6 → s ≠ t → st s = 1 → d s = (ne (s * 6 + c)).toInt) (hv : -1000 ≤ v ∧ v ≤ 1000) (hb : ∀ s, s < 6 → -1000 ≤ d s ∧ d s ≤ 1000)
    (h4 : x4.toInt = v + eg_lo d 6) (h5 : x5.toInt = v + eg_hi d 6)
    (K0 : ¬ (∀ s, s < T → s ≠ t → st s = 1 → eg_G v d gl gm c s) → post 0) (K1 : (∀ s, s < T → s ≠ t → st s = 1 → eg_G v d gl gm c s) → post 1) :
    ∀ m u, u + m = T → (∀ s, s < u → s ≠ t → st s = 1 → eg_G v d gl gm c s) → wX_isSafe_119 post (nI t) (nI c) x4 x5 0 1 2 0 1 2 0 1 (nI C) (nI T) (nI L) (nI R) (nI z) (nI kp) up (nI lf) va st ne gl gm ek es en (m + 1) (nI u) := by
  intro m
  induction m with
  | zero =>
    intro u hu H
    obtain rfl : u = T := by omega
    exact br_t (nI_le (Nat.le_refl _) (by omega)) (K1 H)
  | succ m ih =>
    intro u hu H
    have cu : (nI u).toNatClampNeg = u := nI_clamp (by omega)
    have hbn := eg_lhb (d := d) 6 hb
    have hbu := hb u (by omega)
    refine br_f (nI_ge (by omega) (by omega)) (br_c (fun e => nm_r (nI_1 u) (ih (u + 1) (by omega) (fun s hs hn h1 => ?_))) (fun e => ⟨vp_in_nI (by omega) (by omega), br_c (fun e1 => ?_) (fun e1 => nm_r (nI_1 u) (ih (u + 1) (by omega) (fun s hs hn h1 => ?_)))⟩))
    · rw [nI_eq (by omega) (by omega)] at e
      exact H s (by omega) hn h1
    · rw [nI_eq (by omega) (by omega)] at e
      rw [cu] at e1
      have hdu := hd u (by omega) e e1
      have hG : eg_G v d gl gm c u ↔ ((gl (u * 6 + c)).toInt ≤ x4.toInt - (if (ne (u * 6 + c)).toInt < 0 then (ne (u * 6 + c)).toInt else 0) ∧ x5.toInt - (if 0 < (ne (u * 6 + c)).toInt then (ne (u * 6 + c)).toInt else 0) ≤ (gm (u * 6 + c)).toInt) := by
        unfold eg_G
        have hx := eg_loX (d := d) (d' := fun r => if r = u then 0 else d r) (u := u) 6 (fun r _ => rfl)
        rw [eg_AllL, hx.1, hx.2, h4, h5, ← hdu]
        simp only [show u < 6 by omega, true_and]
        omega
      rw [eg_ix]
      refine eg_xh (by omega) (by omega) (by omega) (by omega) (fun h => br_f (by decide) (nm_r (nI_1 u) (ih (u + 1) (by omega) (fun s hs hn h1 => ?_)))) (fun h => br_t rfl (K0 (fun z => h (hG.mp (z u (by omega) e e1)))))
      by_cases es : s = u
      · rw [es]; exact hG.mpr h
      · exact H s (by omega) hn h1
    · rw [cu] at e1
      by_cases es : s = u
      · rw [es] at h1; exact absurd h1 e1
      · exact H s (by omega) hn h1
theorem eg_xsf {post : Int32 → Prop} {t c : Nat} {nx : Int32} {d : Nat → Int} (ht : t < 6) (hT : T ≤ 6) (hc : c < 6) (hL : L ≤ 60) (hd : ∀ s, s < 6 → d s = if st s = 0 then 0 else if s = t then nx.toInt else (ne (s * 6 + c)).toInt) (hz : ∀ s, T ≤ s → s < 6 → d s = 0) (hv : -1000 ≤ (va c).toInt ∧ (va c).toInt ≤ 1000) (hb : ∀ s, s < 6 → -1000 ≤ d s ∧ d s ≤ 1000)
    (K0 : ¬ (eg_All (va c).toInt d 0 L ∧ ∀ s, s < T → s ≠ t → st s = 1 → eg_G (va c).toInt d gl gm c s) → post 0) (K1 : eg_All (va c).toInt d 0 L → (∀ s, s < T → s ≠ t → st s = 1 → eg_G (va c).toInt d gl gm c s) → post 1) :
    wpX_isSafe post (0, 1, 2, 0, 1, 2, 0, 1, nI C, nI T, nI L, nI R, nI z, nI kp, up, nI lf, va, st, ne, gl, gm, ek, es, en) (nI t) (nI c) nx := by
  have cc : (nI c).toNatClampNeg = c := nI_clamp (by omega)
  have hvi : vp_in (nI c) 12 := vp_in_nI (by omega) (by omega)
  have hlh := eg_loT 6 hT hz
  have hAL : eg_All (va c).toInt d 0 L ↔ (0 ≤ (va c).toInt + eg_lo d T ∧ (va c).toInt + eg_hi d T ≤ L) := by rw [eg_AllL, hlh.1, hlh.2]
  refine ⟨hvi, nm_r (e' := va c) (by rw [cc]) ⟨hvi, nm_r (e' := va c) (by rw [cc]) ⟨T + 1, ?_⟩⟩⟩
  refine eg_xs19 (v := (va c).toInt) (d := d) ht hT hc hL hd hv hb (fun h => K0 (fun z => h (hAL.mp z.1))) (fun h x4 x5 h4 h5 => ⟨T + 1, ?_⟩) T 0 (va c) (va c) (by omega) (by show _ = _ + (0 : Int); omega) (by show _ = _ + (0 : Int); omega)
  refine eg_xs119 (v := (va c).toInt) (d := d) ht hT hc (fun s hs hn h1 => ?_) hv hb (by rw [h4, hlh.1]) (by rw [h5, hlh.2]) (fun z => K0 (fun q => z q.2)) (fun z => K1 (hAL.mpr h) z) T 0 (by omega) (fun s hs => absurd hs (by omega))
  rw [hd s hs, if_neg (by rw [h1]; decide), if_neg hn]
end
end
section
/-! views of the log, images -/
def eg_sV (kd nt : Nat → Int32) (e : Nat) (V : Nat → Int32) : Nat → Int32 := fun c => if kd e = 1 then V c + nt (e * 6 + c) else V c
def eg_sS (kd wh : Nat → Int32) (e : Nat) (S : Nat → Int32) : Nat → Int32 := fun t => if (wh e).toNatClampNeg = t then (if kd e = 0 then 2 else 0) else S t
def eg_sN (kd wh nt : Nat → Int32) (e : Nat) (N : Nat → Int32) : Nat → Int32 := fun i => if kd e = 0 ∧ (wh e).toNatClampNeg = i / 6 then nt (e * 6 + i % 6) else N i
def eg_vV (kd nt b : Nat → Int32) : Nat → Nat → Int32
  | 0 => b
  | e + 1 => eg_sV kd nt e (eg_vV kd nt b e)
def eg_vS (kd wh b : Nat → Int32) : Nat → Nat → Int32
  | 0 => b
  | e + 1 => eg_sS kd wh e (eg_vS kd wh b e)
def eg_vN (kd wh nt b : Nat → Int32) : Nat → Nat → Int32
  | 0 => b
  | e + 1 => eg_sN kd wh nt e (eg_vN kd wh nt b e)
theorem eg_vVc {kd kd' nt nt' b b' : Nat → Int32} {c : Nat} : ∀ n, (∀ e, e < n → kd e = kd' e) → (∀ e, e < n → nt (e * 6 + c) = nt' (e * 6 + c)) → b c = b' c → eg_vV kd nt b n c = eg_vV kd' nt' b' n c
  | 0, _, _, h => h
  | n + 1, h1, h2, h => by
    show (if kd n = 1 then eg_vV kd nt b n c + nt (n * 6 + c) else eg_vV kd nt b n c) = (if kd' n = 1 then eg_vV kd' nt' b' n c + nt' (n * 6 + c) else eg_vV kd' nt' b' n c)
    rw [h1 n (by omega), h2 n (by omega), eg_vVc n (fun e he => h1 e (by omega)) (fun e he => h2 e (by omega)) h]
theorem eg_vSc {kd kd' wh wh' b b' : Nat → Int32} {t : Nat} : ∀ n, (∀ e, e < n → kd e = kd' e) → (∀ e, e < n → wh e = wh' e) → b t = b' t → eg_vS kd wh b n t = eg_vS kd' wh' b' n t
  | 0, _, _, h => h
  | n + 1, h1, h2, h => by
    show (if (wh n).toNatClampNeg = t then (if kd n = 0 then 2 else 0) else eg_vS kd wh b n t) = (if (wh' n).toNatClampNeg = t then (if kd' n = 0 then 2 else 0) else eg_vS kd' wh' b' n t)
    rw [h1 n (by omega), h2 n (by omega), eg_vSc n (fun e he => h1 e (by omega)) (fun e he => h2 e (by omega)) h]
theorem eg_vNc {kd kd' wh wh' nt nt' b b' : Nat → Int32} {i : Nat} : ∀ n, (∀ e, e < n → kd e = kd' e) → (∀ e, e < n → wh e = wh' e) → (∀ e, e < n → nt (e * 6 + i % 6) = nt' (e * 6 + i % 6)) → b i = b' i → eg_vN kd wh nt b n i = eg_vN kd' wh' nt' b' n i
  | 0, _, _, _, h => h
  | n + 1, h1, h2, h3, h => by
    show (if kd n = 0 ∧ (wh n).toNatClampNeg = i / 6 then nt (n * 6 + i % 6) else eg_vN kd wh nt b n i) = (if kd' n = 0 ∧ (wh' n).toNatClampNeg = i / 6 then nt' (n * 6 + i % 6) else eg_vN kd' wh' nt' b' n i)
    rw [h1 n (by omega), h2 n (by omega), h3 n (by omega), eg_vNc n (fun e he => h1 e (by omega)) (fun e he => h2 e (by omega)) (fun e he => h3 e (by omega)) h]
/-! a log cut off in front -/
theorem eg_vVh {kd kd' nt nt' b b' : Nat → Int32} {c p : Nat} (hb : b' c = eg_vV kd nt b p c) : ∀ n, (∀ e, e < n → kd' e = kd (e + p)) → (∀ e, e < n → nt' (e * 6 + c) = nt ((e + p) * 6 + c)) → eg_vV kd' nt' b' n c = eg_vV kd nt b (n + p) c
  | 0, _, _ => by rw [Nat.zero_add]; exact hb
  | n + 1, h1, h2 => by
    rw [show n + 1 + p = (n + p) + 1 by omega]
    show (if kd' n = 1 then eg_vV kd' nt' b' n c + nt' (n * 6 + c) else eg_vV kd' nt' b' n c) = (if kd (n + p) = 1 then eg_vV kd nt b (n + p) c + nt ((n + p) * 6 + c) else eg_vV kd nt b (n + p) c)
    rw [h1 n (by omega), h2 n (by omega), eg_vVh hb n (fun e he => h1 e (by omega)) (fun e he => h2 e (by omega))]
theorem eg_vSh {kd kd' wh wh' b b' : Nat → Int32} {t p : Nat} (hb : b' t = eg_vS kd wh b p t) : ∀ n, (∀ e, e < n → kd' e = kd (e + p)) → (∀ e, e < n → wh' e = wh (e + p)) → eg_vS kd' wh' b' n t = eg_vS kd wh b (n + p) t
  | 0, _, _ => by rw [Nat.zero_add]; exact hb
  | n + 1, h1, h2 => by
    rw [show n + 1 + p = (n + p) + 1 by omega]
    show (if (wh' n).toNatClampNeg = t then (if kd' n = 0 then 2 else 0) else eg_vS kd' wh' b' n t) = (if (wh (n + p)).toNatClampNeg = t then (if kd (n + p) = 0 then 2 else 0) else eg_vS kd wh b (n + p) t)
    rw [h1 n (by omega), h2 n (by omega), eg_vSh hb n (fun e he => h1 e (by omega)) (fun e he => h2 e (by omega))]
theorem eg_vNh {kd kd' wh wh' nt nt' b b' : Nat → Int32} {i p : Nat} (hb : b' i = eg_vN kd wh nt b p i) : ∀ n, (∀ e, e < n → kd' e = kd (e + p)) → (∀ e, e < n → wh' e = wh (e + p)) → (∀ e, e < n → nt' (e * 6 + i % 6) = nt ((e + p) * 6 + i % 6)) → eg_vN kd' wh' nt' b' n i = eg_vN kd wh nt b (n + p) i
  | 0, _, _, _ => by rw [Nat.zero_add]; exact hb
  | n + 1, h1, h2, h3 => by
    rw [show n + 1 + p = (n + p) + 1 by omega]
    show (if kd' n = 0 ∧ (wh' n).toNatClampNeg = i / 6 then nt' (n * 6 + i % 6) else eg_vN kd' wh' nt' b' n i) = (if kd (n + p) = 0 ∧ (wh (n + p)).toNatClampNeg = i / 6 then nt ((n + p) * 6 + i % 6) else eg_vN kd wh nt b (n + p) i)
    rw [h1 n (by omega), h2 n (by omega), h3 n (by omega), eg_vNh hb n (fun e he => h1 e (by omega)) (fun e he => h2 e (by omega)) (fun e he => h3 e (by omega))]
/-- a slot in a view is free, or prepared and within -/
theorem eg_vS2 {T : Nat} {kd wh b : Nat → Int32} {t : Nat} (hb : b t = 0 ∨ (b t = 2 ∧ t < T)) (hT : T ≤ 6) : ∀ n, (∀ e, e < n → ∃ q, q < T ∧ wh e = nI q) → (eg_vS kd wh b n t = 0 ∨ (eg_vS kd wh b n t = 2 ∧ t < T))
  | 0, _ => hb
  | n + 1, h => by
    obtain ⟨q, hq, e⟩ := h n (by omega)
    have hc : (wh n).toNatClampNeg = q := by rw [e]; exact nI_clamp (by omega)
    show ((if (wh n).toNatClampNeg = t then (if kd n = 0 then 2 else 0) else eg_vS kd wh b n t) = 0 ∨ ((if (wh n).toNatClampNeg = t then (if kd n = 0 then 2 else 0) else eg_vS kd wh b n t) = 2 ∧ t < T))
    rw [hc]
    by_cases e2 : q = t
    · rw [if_pos e2]
      by_cases e3 : kd n = 0
      · rw [if_pos e3]; exact Or.inr ⟨rfl, by omega⟩
      · rw [if_neg e3]; exact Or.inl rfl
    · rw [if_neg e2]
      exact eg_vS2 hb hT n (fun e he => h e (by omega))
/-! images -/
def eg_Im (C g : Nat) (va st ne V S N : Nat → Int32) : Prop := (∀ c, c < C → va (g * 6 + c) = V c) ∧ (∀ t, t < 6 → st (g * 6 + t) = S t) ∧ (∀ i, i < 36 → i % 6 < C → S (i / 6) ≠ 0 → ne (g * 36 + i) = N i)
def eg_aV (C g e : Nat) (kd : Int32) (en va : Nat → Int32) : Nat → Int32 := if kd = 1 then eg_sg va (g * 6) C (fun c => va (g * 6 + c) + en (e * 6 + c)) else va
def eg_aS (g t : Nat) (kd : Int32) (st : Nat → Int32) : Nat → Int32 := upd st (g * 6 + t) (if kd = 0 then 2 else 0)
def eg_aN (C g e t : Nat) (kd : Int32) (en ne : Nat → Int32) : Nat → Int32 := if kd = 0 then eg_sg ne (g * 36 + t * 6) C (fun c => en (e * 6 + c)) else ne
section
variable {C g e t : Nat} {va st ne ek es en nt V S N V' S' N' : Nat → Int32} {kd : Int32}
theorem eg_ImC (h : eg_Im C g va st ne V S N) (hV : ∀ c, c < C → V c = V' c) (hS : ∀ s, s < 6 → S s = S' s) (hN : ∀ i, i < 36 → i % 6 < C → S (i / 6) ≠ 0 → N i = N' i) : eg_Im C g va st ne V' S' N' := by
  refine ⟨fun c hc => (h.1 c hc).trans (hV c hc), fun s hs => (h.2.1 s hs).trans (hS s hs), fun i hi hc h0 => ?_⟩
  have e := hS (i / 6) (by omega)
  rw [← e] at h0
  exact (h.2.2 i hi hc h0).trans (hN i hi hc h0)
theorem eg_ImS (hC : C ≤ 6) (ht : t < 6) (hw : es e = nI t) (hn : ∀ c, c < C → en (e * 6 + c) = nt (e * 6 + c)) (h : eg_Im C g va st ne V S N) :
    eg_Im C g (eg_aV C g e (ek e) en va) (eg_aS g t (ek e) st) (eg_aN C g e t (ek e) en ne) (eg_sV ek nt e V) (eg_sS ek es e S) (eg_sN ek es nt e N) := by
  have hc : (es e).toNatClampNeg = t := by rw [hw]; exact nI_clamp (by omega)
  refine ⟨fun c hcC => ?_, fun s hs => ?_, fun i hi hi6 h0 => ?_⟩
  · show _ = (if ek e = 1 then V c + nt (e * 6 + c) else V c)
    unfold eg_aV
    by_cases h1 : ek e = 1
    · rw [if_pos h1, if_pos h1, eg_sgi hcC, h.1 c hcC, hn c hcC]
    · rw [if_neg h1, if_neg h1, h.1 c hcC]
  · show _ = (if (es e).toNatClampNeg = s then (if ek e = 0 then 2 else 0) else S s)
    unfold eg_aS
    rw [hc]
    by_cases h1 : t = s
    · subst h1
      rw [if_pos rfl, pk_us]
    · rw [if_neg h1, pk_un (by omega), h.2.1 s hs]
  · have h0' : (if (es e).toNatClampNeg = i / 6 then (if ek e = 0 then 2 else 0) else S (i / 6)) ≠ 0 := h0
    show _ = (if ek e = 0 ∧ (es e).toNatClampNeg = i / 6 then nt (e * 6 + i % 6) else N i)
    unfold eg_aN
    rw [hc] at h0' ⊢
    by_cases h1 : t = i / 6
    · rw [if_pos h1] at h0'
      by_cases h2 : ek e = 0
      · rw [if_pos h2, if_pos ⟨h2, h1⟩, show g * 36 + i = g * 36 + t * 6 + i % 6 by omega, eg_sgi hi6, hn _ hi6]
      · rw [if_neg h2] at h0'
        exact absurd rfl h0'
    · rw [if_neg h1] at h0'
      rw [if_neg (show ¬ (ek e = 0 ∧ t = i / 6) from fun z => h1 z.2)]
      by_cases h2 : ek e = 0
      · rw [if_pos h2, eg_sgo (by omega), h.2.2 i hi hi6 h0']
      · rw [if_neg h2, h.2.2 i hi hi6 h0']
theorem eg_ImF {g' : Nat} (hC : C ≤ 6) (ht : t < 6) (hg : g ≠ g') (h : eg_Im C g' va st ne V S N) :
    eg_Im C g' (eg_aV C g e kd en va) (eg_aS g t kd st) (eg_aN C g e t kd en ne) V S N := by
  refine ⟨fun c hcC => ?_, fun s hs => ?_, fun i hi hi6 h0 => ?_⟩
  · unfold eg_aV
    split
    · rw [eg_sgo (by omega), h.1 c hcC]
    · exact h.1 c hcC
  · unfold eg_aS
    rw [pk_un (by omega), h.2.1 s hs]
  · unfold eg_aN
    split
    · rw [eg_sgo (by omega), h.2.2 i hi hi6 h0]
    · exact h.2.2 i hi hi6 h0
theorem eg_Im0 (h : eg_Im C 0 va st ne V S N) : (∀ c, c < C → va c = V c) ∧ (∀ s, s < 6 → st s = S s) ∧ (∀ i, i < 36 → i % 6 < C → S (i / 6) ≠ 0 → ne i = N i) := by
  refine ⟨fun c hc => ?_, fun s hs => ?_, fun i hi hc h0 => ?_⟩
  · have := h.1 c hc
    rwa [Nat.zero_mul, Nat.zero_add] at this
  · have := h.2.1 s hs
    rwa [Nat.zero_mul, Nat.zero_add] at this
  · have := h.2.2 i hi hc h0
    rwa [Nat.zero_mul, Nat.zero_add] at this
theorem eg_Im0m (h1 : ∀ c, c < C → va c = V c) (h2 : ∀ s, s < 6 → st s = S s) (h3 : ∀ i, i < 36 → i % 6 < C → S (i / 6) ≠ 0 → ne i = N i) : eg_Im C 0 va st ne V S N := by
  refine ⟨fun c hc => ?_, fun s hs => ?_, fun i hi hc h0 => ?_⟩
  · rw [Nat.zero_mul, Nat.zero_add]; exact h1 c hc
  · rw [Nat.zero_mul, Nat.zero_add]; exact h2 s hs
  · rw [Nat.zero_mul, Nat.zero_add]; exact h3 i hi hc h0
end
end
section
/-! X: the storing loops -/
section
variable {C T L R z kp lf : Nat} {up : Int32} {va st ne gl gm ek es en : Nat → Int32}
theorem eg_xa9 {post : SX → Prop} {t : Nat} (ht : t < 6) (hC : C ≤ 6) (K : post (0, 1, 2, 0, 1, 2, 0, 1, nI C, nI T, nI L, nI R, nI z, nI kp, up, nI lf, va, st, eg_sg ne (t * 6) C (fun _ => 0), eg_sg gl (t * 6) C (fun _ => 0), eg_sg gm (t * 6) C (fun _ => nI L), ek, es, en)) :
    ∀ m x, x + m = C → wX_activate_9 post (nI t) 0 1 2 0 1 2 0 1 (nI C) (nI T) (nI L) (nI R) (nI z) (nI kp) up (nI lf) (m + 1) (nI x) va st (eg_sg ne (t * 6) x (fun _ => 0)) (eg_sg gl (t * 6) x (fun _ => 0)) (eg_sg gm (t * 6) x (fun _ => nI L)) ek es en := by
  intro m
  induction m with
  | zero =>
    intro x hx
    obtain rfl : x = C := by omega
    exact br_t (nI_le (Nat.le_refl _) (by omega)) K
  | succ m ih =>
    intro x hx
    have hc := eg_cl (t := t) (c := x) (by omega)
    exact br_f (nI_ge (by omega) (by omega)) ⟨eg_in (by omega) (by omega), nm_r (eg_up hc rfl) ⟨eg_in (by omega) (by omega), nm_r (eg_up hc rfl) ⟨eg_in (by omega) (by omega), nm_r (eg_up hc rfl) (nm_r (nI_1 x) (ih (x + 1) (by omega)))⟩⟩⟩
theorem eg_xact {post : SX → Prop} {t : Nat} (ht : t < 6) (hC : C ≤ 6) (K : post (0, 1, 2, 0, 1, 2, 0, 1, nI C, nI T, nI L, nI R, nI z, nI kp, up, nI lf, va, upd st t 1, eg_sg ne (t * 6) C (fun _ => 0), eg_sg gl (t * 6) C (fun _ => 0), eg_sg gm (t * 6) C (fun _ => nI L), ek, es, en)) : wpX_activate post (0, 1, 2, 0, 1, 2, 0, 1, nI C, nI T, nI L, nI R, nI z, nI kp, up, nI lf, va, st, ne, gl, gm, ek, es, en) (nI t) := by
  have ct : (nI t).toNatClampNeg = t := nI_clamp (by omega)
  have H := eg_xa9 (st := upd st t 1) ht hC K C 0 (by omega)
  rw [eg_sg0, eg_sg0, eg_sg0] at H
  exact ⟨vp_in_nI (by omega) (by omega), nm_r (e' := upd st t 1) (by rw [ct]) ⟨C + 1, H⟩⟩
theorem eg_xbg1 {post : Int32 → SX → Prop} {t : Nat} (ht : t < T) (hT : T ≤ 6) (hC : C ≤ 6) (h0 : st t = 0) (hn : ∀ s, s < t → ¬ st s = 0) (K : post (nI t) (0, 1, 2, 0, 1, 2, 0, 1, nI C, nI T, nI L, nI R, nI z, nI kp, up, nI lf, va, upd st t 1, eg_sg ne (t * 6) C (fun _ => 0), eg_sg gl (t * 6) C (fun _ => 0), eg_sg gm (t * 6) C (fun _ => nI L), ek, es, en)) :
    ∀ m s, s + m = t → wX_begin_13 post 0 1 2 0 1 2 0 1 (nI C) (nI T) (nI L) (nI R) (nI z) (nI kp) up (nI lf) va st ne gl gm ek es en (m + 1) (nI s) := by
  intro m
  induction m with
  | zero =>
    intro s hs
    obtain rfl : s = t := by omega
    have cs : (nI s).toNatClampNeg = s := nI_clamp (by omega)
    exact br_f (nI_ge (by omega) (by omega)) ⟨vp_in_nI (by omega) (by omega), br_t (by rw [cs]; exact h0) (eg_xact (by omega) hC K)⟩
  | succ m ih =>
    intro s hs
    have cs : (nI s).toNatClampNeg = s := nI_clamp (by omega)
    exact br_f (nI_ge (by omega) (by omega)) ⟨vp_in_nI (by omega) (by omega), br_f (by rw [cs]; exact hn s (by omega)) (nm_r (nI_1 s) (ih (s + 1) (by omega)))⟩
theorem eg_xbg0 {post : Int32 → SX → Prop} (hT : T ≤ 6) (hn : ∀ s, s < T → ¬ st s = 0) (K : post 1003 (0, 1, 2, 0, 1, 2, 0, 1, nI C, nI T, nI L, nI R, nI z, nI kp, up, nI lf, va, st, ne, gl, gm, ek, es, en)) :
    ∀ m s, s + m = T → wX_begin_13 post 0 1 2 0 1 2 0 1 (nI C) (nI T) (nI L) (nI R) (nI z) (nI kp) up (nI lf) va st ne gl gm ek es en (m + 1) (nI s) := by
  intro m
  induction m with
  | zero =>
    intro s hs
    obtain rfl : s = T := by omega
    exact br_t (nI_le (Nat.le_refl _) (by omega)) K
  | succ m ih =>
    intro s hs
    have cs : (nI s).toNatClampNeg = s := nI_clamp (by omega)
    exact br_f (nI_ge (by omega) (by omega)) ⟨vp_in_nI (by omega) (by omega), br_f (by rw [cs]; exact hn s (by omega)) (nm_r (nI_1 s) (ih (s + 1) (by omega)))⟩
/-! apply -/
theorem eg_xp1 {post : SX → Prop} {e g t : Nat} (he : e < 24) (hg : g < 2) (ht : t < 6) (hC : C ≤ 6) (K : post (0, 1, 2, 0, 1, 2, 0, 1, nI C, nI T, nI L, nI R, nI z, nI kp, up, nI lf, eg_sg va (g * 6) C (fun c => va (g * 6 + c) + en (e * 6 + c)), upd st (g * 6 + t) 0, ne, gl, gm, ek, es, en)) :
    ∀ m x, x + m = C → wX_apply_18 post (nI e) (nI g) (nI t) 1 0 1 2 0 1 2 0 1 (nI C) (nI T) (nI L) (nI R) (nI z) (nI kp) up (nI lf) (m + 1) (nI x) (eg_sg va (g * 6) x (fun c => va (g * 6 + c) + en (e * 6 + c))) st ne gl gm ek es en := by
  intro m
  induction m with
  | zero =>
    intro x hx
    obtain rfl : x = C := by omega
    exact br_t (nI_le (Nat.le_refl _) (by omega)) (br_f (by decide) ⟨eg_in (by omega) (by omega), nm_r (e' := upd st (g * 6 + t) 0) (by rw [eg_cl (by omega)]) K⟩)
  | succ m ih =>
    intro x hx
    have h12 : vp_in (nI g * 6 + nI x) 12 := eg_in (by omega) (by omega)
    have hc := eg_cl (t := g) (c := x) (by omega)
    exact br_f (nI_ge (by omega) (by omega)) ⟨eg_in (by omega) (by omega), nm_r (e' := en (e * 6 + x)) (by rw [eg_cl (by omega)]) (br_t rfl ⟨h12, h12, nm_r (eg_up hc (by rw [hc, eg_sgo (by omega)])) (nm_r (nI_1 x) (ih (x + 1) (by omega)))⟩)⟩
theorem eg_xp0 {post : SX → Prop} {e g t : Nat} (he : e < 24) (hg : g < 2) (ht : t < 6) (hC : C ≤ 6) (K : post (0, 1, 2, 0, 1, 2, 0, 1, nI C, nI T, nI L, nI R, nI z, nI kp, up, nI lf, va, upd st (g * 6 + t) 2, eg_sg ne (g * 36 + t * 6) C (fun c => en (e * 6 + c)), gl, gm, ek, es, en)) :
    ∀ m x, x + m = C → wX_apply_18 post (nI e) (nI g) (nI t) 0 0 1 2 0 1 2 0 1 (nI C) (nI T) (nI L) (nI R) (nI z) (nI kp) up (nI lf) (m + 1) (nI x) va st (eg_sg ne (g * 36 + t * 6) x (fun c => en (e * 6 + c))) gl gm ek es en := by
  intro m
  induction m with
  | zero =>
    intro x hx
    obtain rfl : x = C := by omega
    exact br_t (nI_le (Nat.le_refl _) (by omega)) (br_t rfl ⟨eg_in (by omega) (by omega), nm_r (e' := upd st (g * 6 + t) 2) (by rw [eg_cl (by omega)]) K⟩)
  | succ m ih =>
    intro x hx
    exact br_f (nI_ge (by omega) (by omega)) ⟨eg_in (by omega) (by omega), nm_r (e' := en (e * 6 + x)) (by rw [eg_cl (by omega)]) (br_f (by decide) (br_t rfl ⟨eg_in3 (by omega) (by omega), nm_r (eg_up (eg_cl3 (by omega)) rfl) (nm_r (nI_1 x) (ih (x + 1) (by omega)))⟩))⟩
theorem eg_xp2 {post : SX → Prop} {e g t : Nat} {kd : Int32} (he : e < 24) (hg : g < 2) (ht : t < 6) (hC : C ≤ 6) (h1 : ¬ kd = 1) (h0 : ¬ kd = 0) (K : post (0, 1, 2, 0, 1, 2, 0, 1, nI C, nI T, nI L, nI R, nI z, nI kp, up, nI lf, va, upd st (g * 6 + t) 0, ne, gl, gm, ek, es, en)) :
    ∀ m x, x + m = C → wX_apply_18 post (nI e) (nI g) (nI t) kd 0 1 2 0 1 2 0 1 (nI C) (nI T) (nI L) (nI R) (nI z) (nI kp) up (nI lf) (m + 1) (nI x) va st ne gl gm ek es en := by
  intro m
  induction m with
  | zero =>
    intro x hx
    obtain rfl : x = C := by omega
    exact br_t (nI_le (Nat.le_refl _) (by omega)) (br_f h0 ⟨eg_in (by omega) (by omega), nm_r (e' := upd st (g * 6 + t) 0) (by rw [eg_cl (by omega)]) K⟩)
  | succ m ih =>
    intro x hx
    exact br_f (nI_ge (by omega) (by omega)) ⟨eg_in (by omega) (by omega), nm_e (br_f h1 (br_f h0 (nm_r (nI_1 x) (ih (x + 1) (by omega)))))⟩
theorem eg_xap {post : SX → Prop} {e g t : Nat} (he : e < 24) (hg : g < 2) (ht : t < 6) (hC : C ≤ 6) (hw : es e = nI t) (K : post (0, 1, 2, 0, 1, 2, 0, 1, nI C, nI T, nI L, nI R, nI z, nI kp, up, nI lf, eg_aV C g e (ek e) en va, eg_aS g t (ek e) st, eg_aN C g e t (ek e) en ne, gl, gm, ek, es, en)) : wpX_apply post (0, 1, 2, 0, 1, 2, 0, 1, nI C, nI T, nI L, nI R, nI z, nI kp, up, nI lf, va, st, ne, gl, gm, ek, es, en) (nI e) (nI g) := by
  have ce : (nI e).toNatClampNeg = e := nI_clamp (by omega)
  have hv : vp_in (nI e) 24 := vp_in_nI he (by omega)
  unfold eg_aV eg_aS eg_aN at K
  refine ⟨hv, nm_r (e' := nI t) (by rw [ce, hw]) ⟨hv, nm_r (e' := ek e) (by rw [ce]) ⟨C + 1, ?_⟩⟩⟩
  by_cases h1 : ek e = 1
  · rw [h1] at K ⊢
    rw [if_pos rfl, if_neg (by decide), if_neg (by decide)] at K
    have H := eg_xp1 he hg ht hC K C 0 (by omega)
    rw [eg_sg0] at H
    exact H
  · by_cases h0 : ek e = 0
    · rw [h0] at K ⊢
      rw [if_neg (by decide), if_pos rfl, if_pos rfl] at K
      have H := eg_xp0 he hg ht hC K C 0 (by omega)
      rw [eg_sg0] at H
      exact H
    · rw [if_neg h1, if_neg h0, if_neg h0] at K
      exact eg_xp2 he hg ht hC h1 h0 K C 0 (by omega)
/-! appendEvent -/
theorem eg_xae {post : SX → Prop} {t : Nat} {kd : Int32} (hz : z < 24) (ht : t < 6) (hC : C ≤ 6) (h1 : ek z = kd) (h2 : es z = nI t)
    (K : post (0, 1, 2, 0, 1, 2, 0, 1, nI C, nI T, nI L, nI R, nI (z + 1), nI kp, up, nI lf, eg_aV C 0 z kd (eg_sg en (z * 6) C (fun c => ne (t * 6 + c))) va, eg_aS 0 t kd st, eg_aN C 0 z t kd (eg_sg en (z * 6) C (fun c => ne (t * 6 + c))) ne, gl, gm, ek, es, eg_sg en (z * 6) C (fun c => ne (t * 6 + c)))) :
    ∀ m x, x + m = C → wX_appendEvent_22 post (nI t) (nI z) 0 1 2 0 1 2 0 1 (nI C) (nI T) (nI L) (nI R) (nI z) (nI kp) up (nI lf) (m + 1) (nI x) va st ne gl gm ek es (eg_sg en (z * 6) x (fun c => ne (t * 6 + c))) := by
  intro m
  induction m with
  | zero =>
    intro x hx
    obtain rfl : x = C := by omega
    refine br_t (nI_le (Nat.le_refl _) (by omega)) (nm_r (nI_1 z) ?_)
    refine eg_xap (g := 0) (t := t) hz (by omega) ht hC h2 ?_
    rw [h1]
    exact K
  | succ m ih =>
    intro x hx
    exact br_f (nI_ge (by omega) (by omega)) ⟨eg_in (by omega) (by omega), eg_in (by omega) (by omega), nm_r (eg_up (eg_cl (by omega)) (by rw [eg_cl (by omega)])) (nm_r (nI_1 x) (ih (x + 1) (by omega)))⟩
theorem eg_xape {post : SX → Prop} {t : Nat} {kd : Int32} (hz : z < 24) (ht : t < 6) (hC : C ≤ 6)
    (K : post (0, 1, 2, 0, 1, 2, 0, 1, nI C, nI T, nI L, nI R, nI (z + 1), nI kp, up, nI lf, eg_aV C 0 z kd (eg_sg en (z * 6) C (fun c => ne (t * 6 + c))) va, eg_aS 0 t kd st, eg_aN C 0 z t kd (eg_sg en (z * 6) C (fun c => ne (t * 6 + c))) ne, gl, gm, upd ek z kd, upd es z (nI t), eg_sg en (z * 6) C (fun c => ne (t * 6 + c)))) :
    wpX_appendEvent post (0, 1, 2, 0, 1, 2, 0, 1, nI C, nI T, nI L, nI R, nI z, nI kp, up, nI lf, va, st, ne, gl, gm, ek, es, en) kd (nI t) := by
  have cz : (nI z).toNatClampNeg = z := nI_clamp (by omega)
  have hv : vp_in (nI z) 24 := vp_in_nI hz (by omega)
  have H := eg_xae (ek := upd ek z kd) (es := upd es z (nI t)) hz ht hC pk_us pk_us K C 0 (by omega)
  rw [eg_sg0] at H
  exact ⟨hv, nm_r (e' := upd ek z kd) (by rw [cz]) ⟨hv, nm_r (e' := upd es z (nI t)) (by rw [cz]) ⟨C + 1, H⟩⟩⟩
/-! moveEvent -/
theorem eg_xm26 {post : SX → Prop} {a b : Nat} (ha : a < 24) (hb : b ≤ a) (hC : C ≤ 6) (K : post (0, 1, 2, 0, 1, 2, 0, 1, nI C, nI T, nI L, nI R, nI z, nI kp, up, nI lf, va, st, ne, gl, gm, ek, es, eg_sg en (b * 6) C (fun c => en (a * 6 + c)))) :
    ∀ m x, x + m = C → wX_moveEvent_26 post (nI a) (nI b) 0 1 2 0 1 2 0 1 (nI C) (nI T) (nI L) (nI R) (nI z) (nI kp) up (nI lf) (m + 1) (nI x) va st ne gl gm ek es (eg_sg en (b * 6) x (fun c => en (a * 6 + c))) := by
  intro m
  induction m with
  | zero =>
    intro x hx
    obtain rfl : x = C := by omega
    exact br_t (nI_le (Nat.le_refl _) (by omega)) K
  | succ m ih =>
    intro x hx
    exact br_f (nI_ge (by omega) (by omega)) ⟨eg_in (by omega) (by omega), eg_in (by omega) (by omega), nm_r (eg_up (eg_cl (by omega)) (by rw [eg_cl (by omega), eg_sgo (by omega)])) (nm_r (nI_1 x) (ih (x + 1) (by omega)))⟩
theorem eg_xme {post : SX → Prop} {a b : Nat} (ha : a < 24) (hb : b ≤ a) (hC : C ≤ 6) (K : post (0, 1, 2, 0, 1, 2, 0, 1, nI C, nI T, nI L, nI R, nI z, nI kp, up, nI lf, va, st, ne, gl, gm, upd ek b (ek a), upd es b (es a), eg_sg en (b * 6) C (fun c => en (a * 6 + c)))) : wpX_moveEvent post (0, 1, 2, 0, 1, 2, 0, 1, nI C, nI T, nI L, nI R, nI z, nI kp, up, nI lf, va, st, ne, gl, gm, ek, es, en) (nI a) (nI b) := by
  have ca : (nI a).toNatClampNeg = a := nI_clamp (by omega)
  have cb : (nI b).toNatClampNeg = b := nI_clamp (by omega)
  have va' : vp_in (nI a) 24 := vp_in_nI ha (by omega)
  have vb : vp_in (nI b) 24 := vp_in_nI (by omega) (by omega)
  have H := eg_xm26 (ek := upd ek b (ek a)) (es := upd es b (es a)) ha hb hC K C 0 (by omega)
  rw [eg_sg0] at H
  exact ⟨va', vb, nm_r (e' := upd ek b (ek a)) (by rw [ca, cb]) ⟨va', vb, nm_r (e' := upd es b (es a)) (by rw [ca, cb]) ⟨C + 1, H⟩⟩⟩
/-! loadBase -/
theorem eg_6a (x : Nat) : (6 : Int32) + nI x = nI (6 + x) := by rw [eg_6, nI_add]
theorem eg_36a (x : Nat) : (36 : Int32) + nI x = nI (36 + x) := by rw [eg_36, nI_add]
theorem eg_xl46 {post : SX → Prop} (K : post (0, 1, 2, 0, 1, 2, 0, 1, nI C, nI T, nI L, nI R, nI z, nI kp, up, nI lf, va, st, eg_sg ne 0 36 (fun i => ne (36 + i)), gl, gm, ek, es, en)) :
    ∀ m x, x + m = 36 → wX_loadBase_46 post 0 1 2 0 1 2 0 1 (nI C) (nI T) (nI L) (nI R) (nI z) (nI kp) up (nI lf) (m + 1) (nI x) va st (eg_sg ne 0 x (fun i => ne (36 + i))) gl gm ek es en := by
  intro m
  induction m with
  | zero =>
    intro x hx
    obtain rfl : x = 36 := by omega
    exact br_t (nI_le (Nat.le_refl 36) (by omega)) K
  | succ m ih =>
    intro x hx
    have c1 : (nI x).toNatClampNeg = x := nI_clamp (by omega)
    have c2 : ((36 : Int32) + nI x).toNatClampNeg = 36 + x := by rw [eg_36a]; exact nI_clamp (by omega)
    have v2 : vp_in ((36 : Int32) + nI x) 72 := by rw [eg_36a]; exact vp_in_nI (by omega) (by omega)
    exact br_f (nI_ge (b := 36) (by omega) (by omega)) ⟨v2, vp_in_nI (by omega) (by omega), nm_r (eg_up (by omega) (by rw [c2, eg_sgo (by omega)])) (nm_r (nI_1 x) (ih (x + 1) (by omega)))⟩
theorem eg_xl2 {post : SX → Prop} (K : post (0, 1, 2, 0, 1, 2, 0, 1, nI C, nI T, nI L, nI R, nI z, nI kp, up, nI lf, eg_sg va 0 6 (fun i => va (6 + i)), eg_sg st 0 6 (fun i => st (6 + i)), eg_sg ne 0 36 (fun i => ne (36 + i)), gl, gm, ek, es, en)) :
    ∀ m x, x + m = 6 → wX_loadBase_2 post 0 1 2 0 1 2 0 1 (nI C) (nI T) (nI L) (nI R) (nI z) (nI kp) up (nI lf) (m + 1) (nI x) (eg_sg va 0 x (fun i => va (6 + i))) (eg_sg st 0 x (fun i => st (6 + i))) ne gl gm ek es en := by
  intro m
  induction m with
  | zero =>
    intro x hx
    obtain rfl : x = 6 := by omega
    have H := eg_xl46 K 36 0 rfl
    rw [eg_sg0] at H
    exact br_t (nI_le (Nat.le_refl 6) (by omega)) ⟨37, H⟩
  | succ m ih =>
    intro x hx
    have c1 : (nI x).toNatClampNeg = x := nI_clamp (by omega)
    have c2 : ((6 : Int32) + nI x).toNatClampNeg = 6 + x := by rw [eg_6a]; exact nI_clamp (by omega)
    have v1 : vp_in (nI x) 12 := vp_in_nI (by omega) (by omega)
    have v2 : vp_in ((6 : Int32) + nI x) 12 := by rw [eg_6a]; exact vp_in_nI (by omega) (by omega)
    exact br_f (nI_ge (b := 6) (by omega) (by omega)) ⟨v2, v1, nm_r (eg_up (by omega) (by rw [c2, eg_sgo (by omega)])) ⟨v2, v1, nm_r (eg_up (by omega) (by rw [c2, eg_sgo (by omega)])) (nm_r (nI_1 x) (ih (x + 1) (by omega)))⟩⟩
theorem eg_xlb {post : SX → Prop} (K : post (0, 1, 2, 0, 1, 2, 0, 1, nI C, nI T, nI L, nI R, nI z, nI kp, up, nI lf, eg_sg va 0 6 (fun i => va (6 + i)), eg_sg st 0 6 (fun i => st (6 + i)), eg_sg ne 0 36 (fun i => ne (36 + i)), gl, gm, ek, es, en)) : wpX_loadBase post (0, 1, 2, 0, 1, 2, 0, 1, nI C, nI T, nI L, nI R, nI z, nI kp, up, nI lf, va, st, ne, gl, gm, ek, es, en) := by
  have H := eg_xl2 K 6 0 rfl
  rw [eg_sg0, eg_sg0] at H
  exact ⟨7, H⟩
end
end
section
/-! X: the loops over events, the views -/
def eg_mv (C kp : Nat) (en : Nat → Int32) (x : Nat) : Nat → Int32 := fun i => if i / 6 < x ∧ i % 6 < C then en (i + kp * 6) else en i
theorem eg_mv0 {C kp : Nat} {en : Nat → Int32} : eg_mv C kp en 0 = en := by
  funext i
  exact if_neg (by omega)
theorem eg_mvS {C kp : Nat} {en : Nat → Int32} {x : Nat} (hC : C ≤ 6) : eg_sg (eg_mv C kp en x) (x * 6) C (fun c => eg_mv C kp en x ((x + kp) * 6 + c)) = eg_mv C kp en (x + 1) := by
  funext i
  show (if x * 6 ≤ i ∧ i < x * 6 + C then (if ((x + kp) * 6 + (i - x * 6)) / 6 < x ∧ ((x + kp) * 6 + (i - x * 6)) % 6 < C then en ((x + kp) * 6 + (i - x * 6) + kp * 6) else en ((x + kp) * 6 + (i - x * 6))) else (if i / 6 < x ∧ i % 6 < C then en (i + kp * 6) else en i)) = if i / 6 < x + 1 ∧ i % 6 < C then en (i + kp * 6) else en i
  by_cases h : x * 6 ≤ i ∧ i < x * 6 + C
  · rw [if_pos h, if_neg (by omega), if_pos (by omega), show (x + kp) * 6 + (i - x * 6) = i + kp * 6 by omega]
  · rw [if_neg h]
    by_cases h2 : i / 6 < x ∧ i % 6 < C
    · rw [if_pos h2, if_pos (by omega)]
    · rw [if_neg h2, if_neg (by omega)]
section
variable {C T L R z kp lf : Nat} {up : Int32} {va st ne gl gm ek es en : Nat → Int32}
theorem eg_xc37 {post : Int32 → SX → Prop} (hz : z ≤ 24) (hk : kp ≤ z) (hC : C ≤ 6)
    (K : post (nI kp) (0, 1, 2, 0, 1, 2, 0, 1, nI C, nI T, nI L, nI R, nI (z - kp), 0, up, nI lf, va, st, ne, gl, gm, eg_sg ek 0 (z - kp) (fun i => ek (i + kp)), eg_sg es 0 (z - kp) (fun i => es (i + kp)), eg_mv C kp en (z - kp))) :
    ∀ m x, x + m + kp = z → wX_checkpoint_37 post (nI kp) (m + 1) (nI (x + kp)) 0 1 2 0 1 2 0 1 (nI C) (nI T) (nI L) (nI R) (nI z) (nI kp) up (nI lf) va st ne gl gm (eg_sg ek 0 x (fun i => ek (i + kp))) (eg_sg es 0 x (fun i => es (i + kp))) (eg_mv C kp en x) := by
  intro m
  induction m with
  | zero =>
    intro x hx
    obtain rfl : x = z - kp := by omega
    exact br_t (nI_le (by omega) (by omega)) (nm_r (pk_sub hk) K)
  | succ m ih =>
    intro x hx
    refine br_f (nI_ge (by omega) (by omega)) ?_
    rw [pk_sub (show kp ≤ x + kp by omega), Nat.add_sub_cancel]
    refine eg_xme (by omega) (by omega) hC ?_
    refine nm_r (nI_1 (x + kp)) ?_
    have H := ih (x + 1) (by omega)
    rw [← eg_up (a := ek) (b := 0) (x := x) (f := fun i => ek (i + kp)) (i := x) (by omega) rfl, ← eg_up (a := es) (b := 0) (x := x) (f := fun i => es (i + kp)) (i := x) (by omega) rfl, ← eg_mvS hC] at H
    rw [eg_sgo (a := ek) (by omega), eg_sgo (a := es) (by omega), show x + kp + 1 = x + 1 + kp by omega]
    exact H
theorem eg_xc18 {post : Int32 → SX → Prop} {P : Nat → (Nat → Int32) → (Nat → Int32) → (Nat → Int32) → Prop} {w : Nat → Nat} (hk : kp ≤ 24) (hC : C ≤ 6) (hw : ∀ e, e < kp → es e = nI (w e) ∧ w e < 6)
    (hs : ∀ e va st ne, e < kp → P e va st ne → P (e + 1) (eg_aV C 1 e (ek e) en va) (eg_aS 1 (w e) (ek e) st) (eg_aN C 1 e (w e) (ek e) en ne))
    (hx : ∀ va st ne, P kp va st ne → ∃ n, wX_checkpoint_37 post (nI kp) n (nI kp) 0 1 2 0 1 2 0 1 (nI C) (nI T) (nI L) (nI R) (nI z) (nI kp) up (nI lf) va st ne gl gm ek es en) :
    ∀ m e va st ne, e + m = kp → P e va st ne → wX_checkpoint_18 post (nI kp) (m + 1) (nI e) 0 1 2 0 1 2 0 1 (nI C) (nI T) (nI L) (nI R) (nI z) (nI kp) up (nI lf) va st ne gl gm ek es en := by
  intro m
  induction m with
  | zero =>
    intro e va st ne he hP
    obtain rfl : e = kp := by omega
    exact br_t (nI_le (Nat.le_refl _) (by omega)) (hx va st ne hP)
  | succ m ih =>
    intro e va st ne he hP
    have hwe := hw e (by omega)
    refine br_f (nI_ge (by omega) (by omega)) ?_
    refine eg_xap (g := 1) (t := w e) (by omega) (by omega) hwe.2 hC hwe.1 ?_
    exact nm_r (nI_1 e) (ih (e + 1) _ _ _ (by omega) (hs e va st ne (by omega) hP))
theorem eg_xr33 {post : Int32 → SX → Prop} {P : Nat → (Nat → Int32) → (Nat → Int32) → (Nat → Int32) → Prop} {w : Nat → Nat} {n0 k : Nat} (hk : n0 + k ≤ 24) (hC : C ≤ 6) (hw : ∀ e, e < n0 + k → es e = nI (w e) ∧ w e < 6) (hl : k ≤ lf) (hl2 : lf ≤ 24)
    (hs : ∀ e va st ne, e < n0 + k → P e va st ne → P (e + 1) (eg_aV C 0 e (ek e) en va) (eg_aS 0 (w e) (ek e) st) (eg_aN C 0 e (w e) (ek e) en ne))
    (hx : ∀ va st ne, P (n0 + k) va st ne → (lf - k = 0 → post 0 (0, 1, 2, 0, 1, 2, 0, 1, nI C, nI T, nI L, nI R, nI z, nI kp, 1, 0, va, st, ne, gl, gm, ek, es, en)) ∧ (¬ lf - k = 0 → post (nI (lf - k)) (0, 1, 2, 0, 1, 2, 0, 1, nI C, nI T, nI L, nI R, nI z, nI kp, up, nI (lf - k), va, st, ne, gl, gm, ek, es, en))) :
    ∀ m i va st ne, i + m = k → P (n0 + i) va st ne → wX_recover_33 post (nI k) (nI n0) (m + 1) (nI i) 0 1 2 0 1 2 0 1 (nI C) (nI T) (nI L) (nI R) (nI z) (nI kp) up (nI lf) va st ne gl gm ek es en := by
  intro m
  induction m with
  | zero =>
    intro i va st ne hi hP
    obtain rfl : i = k := by omega
    have H := hx va st ne hP
    refine br_t (nI_le (Nat.le_refl _) (by omega)) (nm_r (pk_sub hl) ?_)
    refine pk_eq (lf - i) 0 (fun e => ?_) (fun e => H.2 e)
    rw [e]
    exact H.1 e
  | succ m ih =>
    intro i va st ne hi hP
    have hwe := hw (n0 + i) (by omega)
    refine br_f (nI_ge (by omega) (by omega)) ?_
    rw [nI_add]
    refine eg_xap (g := 0) (t := w (n0 + i)) (by omega) (by omega) hwe.2 hC hwe.1 ?_
    exact nm_r (nI_1 i) (ih (i + 1) _ _ _ (by omega) (hs (n0 + i) va st ne (by omega) hP))
/-! views -/
theorem eg_xv13 {post : Int32 → Prop} {c k : Nat} (hc : c < 6) (hk : k ≤ 24) (K : post (eg_vV ek en (fun i => va (6 + i)) k c)) :
    ∀ m e, e + m = k → wX_viewValue_13 post (nI c) (nI k) 0 1 2 0 1 2 0 1 (nI C) (nI T) (nI L) (nI R) (nI z) (nI kp) up (nI lf) va st ne gl gm ek es en (m + 1) (eg_vV ek en (fun i => va (6 + i)) e c) (nI e) := by
  intro m
  induction m with
  | zero =>
    intro e he
    obtain rfl : e = k := by omega
    exact br_t (nI_le (Nat.le_refl _) (by omega)) K
  | succ m ih =>
    intro e he
    have ce : (nI e).toNatClampNeg = e := nI_clamp (by omega)
    have H := ih (e + 1) (by omega)
    have hS : eg_vV ek en (fun i => va (6 + i)) (e + 1) c = if ek e = 1 then eg_vV ek en (fun i => va (6 + i)) e c + en (e * 6 + c) else eg_vV ek en (fun i => va (6 + i)) e c := rfl
    refine br_f (nI_ge (by omega) (by omega)) ⟨vp_in_nI (by omega) (by omega), br_c (fun h1 => ⟨eg_in (by omega) (by omega), nm_r ?_ (nm_r (nI_1 e) H)⟩) (fun h1 => nm_r (nI_1 e) ?_)⟩
    · rw [ce] at h1
      rw [hS, if_pos h1, eg_cl (by omega)]
    · rw [ce] at h1
      rw [hS, if_neg h1] at H
      exact H
theorem eg_xvv {post : Int32 → Prop} {c k : Nat} (hc : c < 6) (hk : k ≤ 24) (K : post (eg_vV ek en (fun i => va (6 + i)) k c)) : wpX_viewValue post (0, 1, 2, 0, 1, 2, 0, 1, nI C, nI T, nI L, nI R, nI z, nI kp, up, nI lf, va, st, ne, gl, gm, ek, es, en) (nI c) (nI k) := by
  have c2 : ((6 : Int32) + nI c).toNatClampNeg = 6 + c := by rw [eg_6a]; exact nI_clamp (by omega)
  have v2 : vp_in ((6 : Int32) + nI c) 12 := by rw [eg_6a]; exact vp_in_nI (by omega) (by omega)
  exact ⟨v2, nm_r (e' := va (6 + c)) (by rw [c2]) ⟨k + 1, eg_xv13 hc hk K k 0 (by omega)⟩⟩
theorem eg_xim {post : Int32 → Prop} {t c g : Nat} (ht : t < 6) (hc : c < 6) (hg : g < 2) (K0 : st (g * 6 + t) = 0 → post 1005) (K1 : ¬ st (g * 6 + t) = 0 → post (ne (g * 36 + (t * 6 + c)))) : wpX_imageNet post (0, 1, 2, 0, 1, 2, 0, 1, nI C, nI T, nI L, nI R, nI z, nI kp, up, nI lf, va, st, ne, gl, gm, ek, es, en) (nI t) (nI c) (nI g) := by
  have c1 := eg_cl (t := g) (c := t) (by omega)
  have c2 := eg_cl3 (g := g) (t := t) (c := c) (by omega)
  refine ⟨eg_in (by omega) (by omega), br_c (fun h => K0 ?_) (fun h => ⟨eg_in3 (by omega) (by omega), ?_⟩)⟩
  · rw [c1] at h
    exact h
  · rw [c1] at h
    rw [c2, Nat.add_assoc]
    exact K1 h
/-- the net of t for c in view e; over X's own arrays -/
def eg_vr (ek es en st ne : Nat → Int32) (t c e : Nat) : Int32 := if eg_vS ek es (fun i => st (6 + i)) e t = 0 then 1005 else eg_vN ek es en (fun i => ne (36 + i)) e (t * 6 + c)
theorem eg_xn5 {post : Int32 → Prop} {t c : Nat} (ht : t < 6) (hc : c < 6) : ∀ e, e ≤ 24 → (∀ i, i < e → ∃ q, q < 6 ∧ es i = nI q) → post (eg_vr ek es en st ne t c e) → wX_viewNet_5 post (nI t) (nI c) 0 1 2 0 1 2 0 1 (nI C) (nI T) (nI L) (nI R) (nI z) (nI kp) up (nI lf) va st ne gl gm ek es en (e + 1) (nI e + (-1)) := by
  intro e
  induction e with
  | zero =>
    intro _ _ K
    refine br_t (by decide) ?_
    refine eg_xim (g := 1) ht hc (by omega) (fun h => ?_) (fun h => ?_)
    · have e1 : eg_vr ek es en st ne t c 0 = 1005 := if_pos h
      rw [e1] at K
      exact K
    · have e1 : eg_vr ek es en st ne t c 0 = ne (36 + (t * 6 + c)) := if_neg h
      rw [e1] at K
      exact K
  | succ e ih =>
    intro he hq K
    obtain ⟨q, hq6, eq⟩ := hq e (by omega)
    have ce : (nI e).toNatClampNeg = e := nI_clamp (by omega)
    have cq : (es e).toNatClampNeg = q := by rw [eq]; exact nI_clamp (by omega)
    have hv : vp_in (nI e) 24 := vp_in_nI (by omega) (by omega)
    have hS : eg_vS ek es (fun i => st (6 + i)) (e + 1) t = if (es e).toNatClampNeg = t then (if ek e = 0 then 2 else 0) else eg_vS ek es (fun i => st (6 + i)) e t := rfl
    have hN : eg_vN ek es en (fun i => ne (36 + i)) (e + 1) (t * 6 + c) = if ek e = 0 ∧ (es e).toNatClampNeg = (t * 6 + c) / 6 then en (e * 6 + (t * 6 + c) % 6) else eg_vN ek es en (fun i => ne (36 + i)) e (t * 6 + c) := rfl
    unfold eg_vr at K
    rw [hS, hN, cq, (eg_dm hc).1, (eg_dm hc).2] at K
    rw [pk_m1]
    refine br_f (nI_pos (by omega)) ⟨hv, br_c (fun h => ⟨hv, br_c (fun h2 => ⟨eg_in (by omega) (by omega), ?_⟩) (fun h2 => ?_)⟩) (fun h => nm_e (ih (by omega) (fun i hi => hq i (by omega)) ?_))⟩
    · rw [ce, eq, nI_eq (by omega) (by omega)] at h
      rw [ce] at h2
      rw [if_pos h, if_pos h2, if_neg (by decide), if_pos ⟨h2, h⟩] at K
      rw [eg_cl (by omega)]
      exact K
    · rw [ce, eq, nI_eq (by omega) (by omega)] at h
      rw [ce] at h2
      rw [if_pos h, if_neg h2, if_pos rfl] at K
      exact K
    · rw [ce, eq, nI_eq (by omega) (by omega)] at h
      rw [if_neg h, if_neg (show ¬ (ek e = 0 ∧ q = t) from fun z => h z.2)] at K
      exact K
theorem eg_xvn {post : Int32 → Prop} {t c k : Nat} (ht : t < 6) (hc : c < 6) (hk : k ≤ 24) (hq : ∀ i, i < k → ∃ q, q < 6 ∧ es i = nI q) (K : post (eg_vr ek es en st ne t c k)) : wpX_viewNet post (0, 1, 2, 0, 1, 2, 0, 1, nI C, nI T, nI L, nI R, nI z, nI kp, up, nI lf, va, st, ne, gl, gm, ek, es, en) (nI t) (nI c) (nI k) :=
  nm_r (Int32.sub_eq_add_neg _ _) ⟨k + 1, eg_xn5 ht hc k hk hq K⟩
end
end
section
/-! Y: load, append, begin, crash -/
abbrev eg_TJ : Type := Int32 → (Nat → Int32) → (Nat → Int32) → (Nat → Int32) → (Nat → Int32) → (Nat → Int32) → (Nat → Int32) → (Nat → Int32) → (Nat → Int32) → (Nat → Int32) → (Nat → Int32) → (Nat → Int32) → (Nat → Int32) → (Nat → Int32) → Prop
def eg_Ex (nV nS nN V S N : Nat → Int32) : Prop := (∀ c, c < 6 → nV c = V c) ∧ (∀ t, t < 6 → nS t = S t) ∧ (∀ i, i < 36 → nN i = N i)
theorem eg_ExS {e t : Nat} {nV nS nN V S N ek es nt : Nat → Int32} (ht : t < 6) (hw : es e = nI t) (h : eg_Ex nV nS nN V S N) :
    eg_Ex (eg_aV 6 0 e (ek e) nt nV) (eg_aS 0 t (ek e) nS) (eg_aN 6 0 e t (ek e) nt nN) (eg_sV ek nt e V) (eg_sS ek es e S) (eg_sN ek es nt e N) := by
  have hc : (es e).toNatClampNeg = t := by rw [hw]; exact nI_clamp (by omega)
  refine ⟨fun c hcC => ?_, fun s hs => ?_, fun i hi => ?_⟩
  · show _ = (if ek e = 1 then V c + nt (e * 6 + c) else V c)
    unfold eg_aV
    by_cases h1 : ek e = 1
    · rw [if_pos h1, if_pos h1, eg_sgi0 hcC, Nat.zero_mul, Nat.zero_add, h.1 c hcC]
    · rw [if_neg h1, if_neg h1, h.1 c hcC]
  · show _ = (if (es e).toNatClampNeg = s then (if ek e = 0 then 2 else 0) else S s)
    unfold eg_aS
    rw [hc, Nat.zero_mul, Nat.zero_add]
    by_cases h1 : t = s
    · subst h1
      rw [if_pos rfl, pk_us]
    · rw [if_neg h1, pk_un (by omega), h.2.1 s hs]
  · show _ = (if ek e = 0 ∧ (es e).toNatClampNeg = i / 6 then nt (e * 6 + i % 6) else N i)
    unfold eg_aN
    rw [hc, Nat.zero_mul, Nat.zero_add]
    by_cases h2 : ek e = 0
    · rw [if_pos h2]
      by_cases h1 : t = i / 6
      · have e1 := eg_sgi (a := nN) (b := t * 6) (n := 6) (f := fun c => nt (e * 6 + c)) (j := i % 6) (by omega)
        rw [show t * 6 + i % 6 = i by omega] at e1
        rw [if_pos ⟨h2, h1⟩, e1]
      · rw [if_neg (show ¬ (ek e = 0 ∧ t = i / 6) from fun z => h1 z.2), eg_sgo (by omega), h.2.2 i hi]
    · rw [if_neg h2, if_neg (show ¬ (ek e = 0 ∧ t = i / 6) from fun z => h2 z.1), h.2.2 i hi]
def eg_oS (ac S : Nat → Int32) : Nat → Int32 := fun t => if ac t = 0 then S t else 1
def eg_oN (ac aN N : Nat → Int32) : Nat → Int32 := fun i => if ac (i / 6) = 0 then N i else aN i
def eg_pS (ac nS : Nat → Int32) (t : Nat) : Nat → Int32 := fun s => if s < t ∧ ¬ ac s = 0 then 1 else nS s
def eg_pN (ac aN nN : Nat → Int32) (t : Nat) : Nat → Int32 := fun i => if i / 6 < t ∧ ¬ ac (i / 6) = 0 then aN i else nN i
theorem eg_pS0 {ac nS : Nat → Int32} : eg_pS ac nS 0 = nS := by
  funext s
  exact if_neg (fun z => absurd z.1 (by omega))
theorem eg_pN0 {ac aN nN : Nat → Int32} : eg_pN ac aN nN 0 = nN := by
  funext i
  exact if_neg (fun z => absurd z.1 (by omega))
theorem eg_pSz {ac nS : Nat → Int32} {t : Nat} (h : ac t = 0) : eg_pS ac nS t = eg_pS ac nS (t + 1) := by
  funext s
  show (if s < t ∧ ¬ ac s = 0 then (1 : Int32) else nS s) = if s < t + 1 ∧ ¬ ac s = 0 then 1 else nS s
  by_cases e : s = t
  · subst e
    rw [if_neg (fun z => z.2 h), if_neg (fun z => z.2 h)]
  · have q : (s < t ∧ ¬ ac s = 0) ↔ (s < t + 1 ∧ ¬ ac s = 0) := ⟨fun z => ⟨by omega, z.2⟩, fun z => ⟨by omega, z.2⟩⟩
    simp only [q]
theorem eg_pNz {ac aN nN : Nat → Int32} {t : Nat} (h : ac t = 0) : eg_pN ac aN nN t = eg_pN ac aN nN (t + 1) := by
  funext i
  show (if i / 6 < t ∧ ¬ ac (i / 6) = 0 then aN i else nN i) = if i / 6 < t + 1 ∧ ¬ ac (i / 6) = 0 then aN i else nN i
  by_cases e : i / 6 = t
  · rw [e, if_neg (fun z => z.2 h), if_neg (fun z => z.2 h)]
  · have q : (i / 6 < t ∧ ¬ ac (i / 6) = 0) ↔ (i / 6 < t + 1 ∧ ¬ ac (i / 6) = 0) := ⟨fun z => ⟨by omega, z.2⟩, fun z => ⟨by omega, z.2⟩⟩
    simp only [q]
theorem eg_pSn {ac nS : Nat → Int32} {t : Nat} (h : ¬ ac t = 0) : upd (eg_pS ac nS t) t 1 = eg_pS ac nS (t + 1) := by
  funext s
  show (if s = t then (1 : Int32) else if s < t ∧ ¬ ac s = 0 then 1 else nS s) = if s < t + 1 ∧ ¬ ac s = 0 then 1 else nS s
  by_cases e : s = t
  · subst e
    rw [if_pos rfl, if_pos ⟨Nat.lt_succ_self s, h⟩]
  · have q : (s < t ∧ ¬ ac s = 0) ↔ (s < t + 1 ∧ ¬ ac s = 0) := ⟨fun z => ⟨by omega, z.2⟩, fun z => ⟨by omega, z.2⟩⟩
    rw [if_neg e]
    simp only [q]
theorem eg_pNn {ac aN nN : Nat → Int32} {t : Nat} (h : ¬ ac t = 0) : eg_sg (eg_pN ac aN nN t) (t * 6) 6 (fun c => aN (t * 6 + c)) = eg_pN ac aN nN (t + 1) := by
  funext i
  show (if t * 6 ≤ i ∧ i < t * 6 + 6 then aN (t * 6 + (i - t * 6)) else if i / 6 < t ∧ ¬ ac (i / 6) = 0 then aN i else nN i) = if i / 6 < t + 1 ∧ ¬ ac (i / 6) = 0 then aN i else nN i
  by_cases e : i / 6 = t
  · rw [if_pos (by omega), e, if_pos ⟨Nat.lt_succ_self t, h⟩, show t * 6 + (i - t * 6) = i by omega]
  · have q : (i / 6 < t ∧ ¬ ac (i / 6) = 0) ↔ (i / 6 < t + 1 ∧ ¬ ac (i / 6) = 0) := ⟨fun z => ⟨by omega, z.2⟩, fun z => ⟨by omega, z.2⟩⟩
    rw [if_neg (by omega)]
    simp only [q]
section
variable {C T L R z kp lf : Nat} {up : Int32} {ek es nt bV bS bN ac aN yl ym nV nS nN : Nat → Int32}
theorem eg_yl240 {post : SY → Prop} {J : eg_TJ} {t : Nat} (ht : t < 6) (K : J (nI (t + 1)) ek es nt bV bS bN ac aN yl ym nV nS (eg_sg nN (t * 6) 6 (fun c => aN (t * 6 + c)))) :
    ∀ m x, x + m = 6 → wY_load_240 post J (nI t) (nI C) (nI T) (nI L) (nI R) up (nI lf) (nI z) (nI kp) (m + 1) (nI x) ek es nt bV bS bN ac aN yl ym nV nS (eg_sg nN (t * 6) x (fun c => aN (t * 6 + c))) := by
  intro m
  induction m with
  | zero =>
    intro x hx
    obtain rfl : x = 6 := by omega
    exact br_t (nI_le (Nat.le_refl 6) (by omega)) (nm_r (nI_1 t) K)
  | succ m ih =>
    intro x hx
    have hc := eg_cl (t := t) (c := x) (by omega)
    have hv : vp_in (nI t * 6 + nI x) 36 := eg_in (by omega) (by omega)
    exact br_f (nI_ge (b := 6) (by omega) (by omega)) ⟨hv, hv, nm_r (eg_up hc (by rw [hc])) (nm_r (nI_1 x) (ih (x + 1) (by omega)))⟩
theorem eg_yl216 {post : SY → Prop} (K : post (nI C, nI T, nI L, nI R, up, nI lf, nI z, nI kp, ek, es, nt, bV, bS, bN, ac, aN, yl, ym, nV, eg_pS ac nS 6, eg_pN ac aN nN 6)) :
    ∀ m t, t + m = 6 → wY_load_216 post (nI C) (nI T) (nI L) (nI R) up (nI lf) (nI z) (nI kp) (m + 1) (nI t) ek es nt bV bS bN ac aN yl ym nV (eg_pS ac nS t) (eg_pN ac aN nN t) := by
  intro m
  induction m with
  | zero =>
    intro t ht
    obtain rfl : t = 6 := by omega
    exact br_t (nI_le (Nat.le_refl 6) (by omega)) K
  | succ m ih =>
    intro t ht
    have ct : (nI t).toNatClampNeg = t := nI_clamp (by omega)
    have hv : vp_in (nI t) 6 := vp_in_nI (by omega) (by omega)
    refine br_f (nI_ge (b := 6) (by omega) (by omega)) ⟨hv, br_c (fun h => nm_r (nI_1 t) ?_) (fun h => ⟨hv, nm_r (e' := eg_pS ac nS (t + 1)) (by rw [ct] at h ⊢; exact eg_pSn h) ⟨7, ?_⟩⟩)⟩
    · rw [ct] at h
      rw [eg_pSz h, eg_pNz h]
      exact ih (t + 1) (by omega)
    · rw [ct] at h
      have H := ih (t + 1) (by omega)
      rw [← eg_pNn h] at H
      have H2 := eg_yl240 (C := C) (T := T) (L := L) (R := R) (z := z) (kp := kp) (lf := lf) (up := up) (post := post) (by omega) H 6 0 rfl
      rw [eg_sg0] at H2
      exact H2
theorem eg_y1031 {post : SY → Prop} {J : eg_TJ} {x1 : Int32} {e t : Nat} (he : e < 24) (ht : t < 6) (h1 : ek e = 1) (K : J (nI (e + 1)) ek es nt bV bS bN ac aN yl ym (eg_sg nV (0 * 6) 6 (fun c => nV (0 * 6 + c) + nt (e * 6 + c))) (upd nS (0 * 6 + t) 0) nN) :
    ∀ m x, x + m = 6 → wY_load_103 post J x1 (nI e) (nI t) (nI C) (nI T) (nI L) (nI R) up (nI lf) (nI z) (nI kp) (m + 1) (nI x) ek es nt bV bS bN ac aN yl ym (eg_sg nV (0 * 6) x (fun c => nV (0 * 6 + c) + nt (e * 6 + c))) nS nN := by
  have ce : (nI e).toNatClampNeg = e := nI_clamp (by omega)
  have ct : (nI t).toNatClampNeg = t := nI_clamp (by omega)
  have hv : vp_in (nI e) 24 := vp_in_nI he (by omega)
  have n0 : ¬ ek (nI e).toNatClampNeg = 0 := by rw [ce, h1]; decide
  intro m
  induction m with
  | zero =>
    intro x hx
    obtain rfl : x = 6 := by omega
    exact br_t (nI_le (Nat.le_refl 6) (by omega)) ⟨hv, br_f n0 ⟨vp_in_nI ht (by omega), nm_r (e' := upd nS (0 * 6 + t) 0) (by rw [ct, Nat.zero_mul, Nat.zero_add]) (nm_r (nI_1 e) K)⟩⟩
  | succ m ih =>
    intro x hx
    have hc : (nI x).toNatClampNeg = 0 * 6 + x := by rw [nI_clamp (by omega)]; omega
    have h6 : vp_in (nI x) 6 := vp_in_nI (by omega) (by omega)
    exact br_f (nI_ge (b := 6) (by omega) (by omega)) ⟨hv, br_f n0 ⟨hv, br_t (by rw [ce]; exact h1) ⟨h6, eg_in (by omega) (by omega), h6, nm_r (eg_up hc (by rw [hc, eg_sgo (by omega), eg_cl (by omega)])) (nm_r (nI_1 x) (ih (x + 1) (by omega)))⟩⟩⟩
theorem eg_y1030 {post : SY → Prop} {J : eg_TJ} {x1 : Int32} {e t : Nat} (he : e < 24) (ht : t < 6) (h0 : ek e = 0) (K : J (nI (e + 1)) ek es nt bV bS bN ac aN yl ym nV (upd nS (0 * 6 + t) 2) (eg_sg nN (0 * 36 + t * 6) 6 (fun c => nt (e * 6 + c)))) :
    ∀ m x, x + m = 6 → wY_load_103 post J x1 (nI e) (nI t) (nI C) (nI T) (nI L) (nI R) up (nI lf) (nI z) (nI kp) (m + 1) (nI x) ek es nt bV bS bN ac aN yl ym nV nS (eg_sg nN (0 * 36 + t * 6) x (fun c => nt (e * 6 + c))) := by
  have ce : (nI e).toNatClampNeg = e := nI_clamp (by omega)
  have ct : (nI t).toNatClampNeg = t := nI_clamp (by omega)
  have hv : vp_in (nI e) 24 := vp_in_nI he (by omega)
  have n1 : ¬ ek (nI e).toNatClampNeg = 1 := by rw [ce, h0]; decide
  have e0 : ek (nI e).toNatClampNeg = 0 := by rw [ce, h0]
  intro m
  induction m with
  | zero =>
    intro x hx
    obtain rfl : x = 6 := by omega
    exact br_t (nI_le (Nat.le_refl 6) (by omega)) ⟨hv, br_t e0 ⟨vp_in_nI ht (by omega), nm_r (e' := upd nS (0 * 6 + t) 2) (by rw [ct, Nat.zero_mul, Nat.zero_add]) (nm_r (nI_1 e) K)⟩⟩
  | succ m ih =>
    intro x hx
    have hc : (nI t * 6 + nI x).toNatClampNeg = 0 * 36 + t * 6 + x := by rw [eg_cl (by omega)]; omega
    exact br_f (nI_ge (b := 6) (by omega) (by omega)) ⟨hv, br_t e0 ⟨eg_in (by omega) (by omega), eg_in (by omega) (by omega), nm_r (eg_up hc (by rw [eg_cl (by omega)])) ⟨hv, br_f n1 (nm_r (nI_1 x) (ih (x + 1) (by omega)))⟩⟩⟩
theorem eg_y1032 {post : SY → Prop} {J : eg_TJ} {x1 : Int32} {e t : Nat} (he : e < 24) (ht : t < 6) (h1 : ¬ ek e = 1) (h0 : ¬ ek e = 0) (K : J (nI (e + 1)) ek es nt bV bS bN ac aN yl ym nV (upd nS (0 * 6 + t) 0) nN) :
    ∀ m x, x + m = 6 → wY_load_103 post J x1 (nI e) (nI t) (nI C) (nI T) (nI L) (nI R) up (nI lf) (nI z) (nI kp) (m + 1) (nI x) ek es nt bV bS bN ac aN yl ym nV nS nN := by
  have ce : (nI e).toNatClampNeg = e := nI_clamp (by omega)
  have ct : (nI t).toNatClampNeg = t := nI_clamp (by omega)
  have hv : vp_in (nI e) 24 := vp_in_nI he (by omega)
  have n1 : ¬ ek (nI e).toNatClampNeg = 1 := by rw [ce]; exact h1
  have n0 : ¬ ek (nI e).toNatClampNeg = 0 := by rw [ce]; exact h0
  intro m
  induction m with
  | zero =>
    intro x hx
    obtain rfl : x = 6 := by omega
    exact br_t (nI_le (Nat.le_refl 6) (by omega)) ⟨hv, br_f n0 ⟨vp_in_nI ht (by omega), nm_r (e' := upd nS (0 * 6 + t) 0) (by rw [ct, Nat.zero_mul, Nat.zero_add]) (nm_r (nI_1 e) K)⟩⟩
  | succ m ih =>
    intro x hx
    exact br_f (nI_ge (b := 6) (by omega) (by omega)) ⟨hv, br_f n0 ⟨hv, br_f n1 (nm_r (nI_1 x) (ih (x + 1) (by omega)))⟩⟩
theorem eg_y103 {post : SY → Prop} {J : eg_TJ} {x1 : Int32} {e t : Nat} (he : e < 24) (ht : t < 6) (K : J (nI (e + 1)) ek es nt bV bS bN ac aN yl ym (eg_aV 6 0 e (ek e) nt nV) (eg_aS 0 t (ek e) nS) (eg_aN 6 0 e t (ek e) nt nN)) :
    ∃ n, wY_load_103 post J x1 (nI e) (nI t) (nI C) (nI T) (nI L) (nI R) up (nI lf) (nI z) (nI kp) n 0 ek es nt bV bS bN ac aN yl ym nV nS nN := by
  unfold eg_aV eg_aS eg_aN at K
  refine ⟨7, ?_⟩
  by_cases h1 : ek e = 1
  · rw [if_pos h1, if_neg (show ¬ ek e = 0 by rw [h1]; decide), if_neg (show ¬ ek e = 0 by rw [h1]; decide)] at K
    have H := eg_y1031 (C := C) (T := T) (L := L) (R := R) (z := z) (kp := kp) (lf := lf) (up := up) (post := post) (x1 := x1) he ht h1 K 6 0 rfl
    rw [eg_sg0] at H
    exact H
  · by_cases h0 : ek e = 0
    · rw [if_neg h1, if_pos h0, if_pos h0] at K
      have H := eg_y1030 (C := C) (T := T) (L := L) (R := R) (z := z) (kp := kp) (lf := lf) (up := up) (post := post) (x1 := x1) he ht h0 K 6 0 rfl
      rw [eg_sg0] at H
      exact H
    · rw [if_neg h1, if_neg h0, if_neg h0] at K
      exact eg_y1032 he ht h1 h0 K 6 0 rfl
theorem eg_y80 {post : SY → Prop} {K E : Nat} (hz : z ≤ 24) (hE : E ≤ z) (hK : E ≤ K) (ho : E = z ∨ E = K) (hK2 : K < 2 ^ 31) (hw : ∀ e, e < z → ∃ t, t < 6 ∧ es e = nI t)
    (H : ∀ nV nS nN, eg_Ex nV nS nN (eg_vV ek nt bV E) (eg_vS ek es bS E) (eg_vN ek es nt bN E) → wY_load_207 post (nI K) (nI C) (nI T) (nI L) (nI R) up (nI lf) (nI z) (nI kp) ek es nt bV bS bN ac aN yl ym nV nS nN) :
    ∀ m e nV nS nN, e + m = E → eg_Ex nV nS nN (eg_vV ek nt bV e) (eg_vS ek es bS e) (eg_vN ek es nt bN e) → wY_load_80 post (nI K) (nI C) (nI T) (nI L) (nI R) up (nI lf) (nI z) (nI kp) (m + 1) (nI e) ek es nt bV bS bN ac aN yl ym nV nS nN := by
  intro m
  induction m with
  | zero =>
    intro e nV nS nN he hP
    obtain rfl : e = E := by omega
    exact pk_le z e (fun _ => H nV nS nN hP) (fun h => br_t (nI_le (by omega) (by omega)) (H nV nS nN hP))
  | succ m ih =>
    intro e nV nS nN he hP
    obtain ⟨t, ht, et⟩ := hw e (by omega)
    have ce : (nI e).toNatClampNeg = e := nI_clamp (by omega)
    exact br_f (nI_ge (by omega) (by omega)) (br_f (nI_ge (by omega) (by omega)) ⟨vp_in_nI (by omega) (by omega), nm_r (e' := nI t) (by rw [ce, et]) (eg_y103 (by omega) ht (ih (e + 1) _ _ _ (by omega) (eg_ExS ht et hP)))⟩)
theorem eg_y54 {post : SY → Prop} {x1 : Int32} (K : ∃ n, wY_load_80 post x1 (nI C) (nI T) (nI L) (nI R) up (nI lf) (nI z) (nI kp) n 0 ek es nt bV bS bN ac aN yl ym nV nS (eg_sg nN 0 36 bN)) :
    ∀ m x, x + m = 36 → wY_load_54 post x1 (nI C) (nI T) (nI L) (nI R) up (nI lf) (nI z) (nI kp) (m + 1) (nI x) ek es nt bV bS bN ac aN yl ym nV nS (eg_sg nN 0 x bN) := by
  intro m
  induction m with
  | zero =>
    intro x hx
    obtain rfl : x = 36 := by omega
    exact br_t (nI_le (Nat.le_refl 36) (by omega)) K
  | succ m ih =>
    intro x hx
    have c1 : (nI x).toNatClampNeg = x := nI_clamp (by omega)
    have v1 : vp_in (nI x) 36 := vp_in_nI (by omega) (by omega)
    exact br_f (nI_ge (b := 36) (by omega) (by omega)) ⟨v1, v1, nm_r (eg_up (by omega) (by rw [c1])) (nm_r (nI_1 x) (ih (x + 1) (by omega)))⟩
theorem eg_y28 {post : SY → Prop} {x1 : Int32} (K : ∃ n, wY_load_54 post x1 (nI C) (nI T) (nI L) (nI R) up (nI lf) (nI z) (nI kp) n 0 ek es nt bV bS bN ac aN yl ym nV (eg_sg nS 0 6 bS) nN) :
    ∀ m x, x + m = 6 → wY_load_28 post x1 (nI C) (nI T) (nI L) (nI R) up (nI lf) (nI z) (nI kp) (m + 1) (nI x) ek es nt bV bS bN ac aN yl ym nV (eg_sg nS 0 x bS) nN := by
  intro m
  induction m with
  | zero =>
    intro x hx
    obtain rfl : x = 6 := by omega
    exact br_t (nI_le (Nat.le_refl 6) (by omega)) K
  | succ m ih =>
    intro x hx
    have c1 : (nI x).toNatClampNeg = x := nI_clamp (by omega)
    have v1 : vp_in (nI x) 6 := vp_in_nI (by omega) (by omega)
    exact br_f (nI_ge (b := 6) (by omega) (by omega)) ⟨v1, v1, nm_r (eg_up (by omega) (by rw [c1])) (nm_r (nI_1 x) (ih (x + 1) (by omega)))⟩
theorem eg_y2 {post : SY → Prop} {x1 : Int32} (K : ∃ n, wY_load_28 post x1 (nI C) (nI T) (nI L) (nI R) up (nI lf) (nI z) (nI kp) n 0 ek es nt bV bS bN ac aN yl ym (eg_sg nV 0 6 bV) nS nN) :
    ∀ m x, x + m = 6 → wY_load_2 post x1 (nI C) (nI T) (nI L) (nI R) up (nI lf) (nI z) (nI kp) (m + 1) (nI x) ek es nt bV bS bN ac aN yl ym (eg_sg nV 0 x bV) nS nN := by
  intro m
  induction m with
  | zero =>
    intro x hx
    obtain rfl : x = 6 := by omega
    exact br_t (nI_le (Nat.le_refl 6) (by omega)) K
  | succ m ih =>
    intro x hx
    have c1 : (nI x).toNatClampNeg = x := nI_clamp (by omega)
    have v1 : vp_in (nI x) 6 := vp_in_nI (by omega) (by omega)
    exact br_f (nI_ge (b := 6) (by omega) (by omega)) ⟨v1, v1, nm_r (eg_up (by omega) (by rw [c1])) (nm_r (nI_1 x) (ih (x + 1) (by omega)))⟩
theorem eg_yld {post : SY → Prop} {K E : Nat} (hz : z ≤ 24) (hE : E ≤ z) (hK : E ≤ K) (ho : E = z ∨ E = K) (hK2 : K < 2 ^ 31) (hw : ∀ e, e < z → ∃ t, t < 6 ∧ es e = nI t)
    (H : ∀ nV nS nN, eg_Ex nV nS nN (eg_vV ek nt bV E) (eg_vS ek es bS E) (eg_vN ek es nt bN E) → wY_load_207 post (nI K) (nI C) (nI T) (nI L) (nI R) up (nI lf) (nI z) (nI kp) ek es nt bV bS bN ac aN yl ym nV nS nN) : wpY_load post (nI C, nI T, nI L, nI R, up, nI lf, nI z, nI kp, ek, es, nt, bV, bS, bN, ac, aN, yl, ym, nV, nS, nN) (nI K) := by
  have H80 := eg_y80 hz hE hK ho hK2 hw H E 0 (eg_sg nV 0 6 bV) (eg_sg nS 0 6 bS) (eg_sg nN 0 36 bN) (by omega) ⟨fun c hc => eg_sgi0 hc, fun c hc => eg_sgi0 hc, fun c hc => eg_sgi0 hc⟩
  have H54 := eg_y54 ⟨_, H80⟩ 36 0 rfl
  rw [eg_sg0] at H54
  have H28 := eg_y28 ⟨_, H54⟩ 6 0 rfl
  rw [eg_sg0] at H28
  have H2 := eg_y2 ⟨_, H28⟩ 6 0 rfl
  rw [eg_sg0] at H2
  exact ⟨7, H2⟩
theorem eg_yldK {post : SY → Prop} {K : Nat} (hz : z ≤ 24) (hK : K ≤ z) (hw : ∀ e, e < z → ∃ t, t < 6 ∧ es e = nI t)
    (H : ∀ nV nS nN, eg_Ex nV nS nN (eg_vV ek nt bV K) (eg_vS ek es bS K) (eg_vN ek es nt bN K) → post (nI C, nI T, nI L, nI R, up, nI lf, nI z, nI kp, ek, es, nt, bV, bS, bN, ac, aN, yl, ym, nV, nS, nN)) : wpY_load post (nI C, nI T, nI L, nI R, up, nI lf, nI z, nI kp, ek, es, nt, bV, bS, bN, ac, aN, yl, ym, nV, nS, nN) (nI K) :=
  eg_yld hz hK (Nat.le_refl K) (Or.inr rfl) (by omega) hw (fun nV nS nN h => br_f (fun e => absurd ((nI_eq (b := 100) (by omega) (by omega)).mp e) (by omega)) (H nV nS nN h))
theorem eg_yldL {post : SY → Prop} (hz : z ≤ 24) (hw : ∀ e, e < z → ∃ t, t < 6 ∧ es e = nI t)
    (H : ∀ nV nS nN, eg_Ex nV nS nN (eg_vV ek nt bV z) (eg_oS ac (eg_vS ek es bS z)) (eg_oN ac aN (eg_vN ek es nt bN z)) → post (nI C, nI T, nI L, nI R, up, nI lf, nI z, nI kp, ek, es, nt, bV, bS, bN, ac, aN, yl, ym, nV, nS, nN)) : wpY_load post (nI C, nI T, nI L, nI R, up, nI lf, nI z, nI kp, ek, es, nt, bV, bS, bN, ac, aN, yl, ym, nV, nS, nN) 100 := by
  refine eg_yld (K := 100) hz (Nat.le_refl z) (by omega) (Or.inl rfl) (by omega) hw (fun nV nS nN h => br_t rfl ⟨7, ?_⟩)
  have H2 := eg_yl216 (H nV (eg_pS ac nS 6) (eg_pN ac aN nN 6) ⟨h.1, fun t ht => ?_, fun i hi => ?_⟩) 6 0 rfl
  · rw [eg_pS0, eg_pN0] at H2
    exact H2
  · show (if t < 6 ∧ ¬ ac t = 0 then (1 : Int32) else nS t) = if ac t = 0 then eg_vS ek es bS z t else 1
    by_cases e : ac t = 0
    · rw [if_pos e, if_neg (fun q => q.2 e), h.2.1 t ht]
    · rw [if_neg e, if_pos ⟨ht, e⟩]
  · show (if i / 6 < 6 ∧ ¬ ac (i / 6) = 0 then aN i else nN i) = if ac (i / 6) = 0 then eg_vN ek es nt bN z i else aN i
    by_cases e : ac (i / 6) = 0
    · rw [if_pos e, if_neg (fun q => q.2 e), h.2.2 i hi]
    · rw [if_neg e, if_pos ⟨by omega, e⟩]
end
end
section
/-! Y: append, begin, checkpoint, crash; both: writeBack -/
section
variable {C T L R z kp lf : Nat} {up : Int32} {ek es nt bV bS bN ac aN yl ym nV nS nN : Nat → Int32}
theorem eg_yap22 {post : SY → Prop} {t : Nat} (hz : z < 24) (ht : t < 6) (K : post (nI C, nI T, nI L, nI R, up, nI lf, nI (z + 1), nI kp, ek, es, eg_sg nt (z * 6) 6 (fun c => nN (t * 6 + c)), bV, bS, bN, ac, aN, yl, ym, nV, nS, nN)) :
    ∀ m x, x + m = 6 → wY_append_22 post (nI t) (nI C) (nI T) (nI L) (nI R) up (nI lf) (nI z) (nI kp) (m + 1) (nI x) ek es (eg_sg nt (z * 6) x (fun c => nN (t * 6 + c))) bV bS bN ac aN yl ym nV nS nN := by
  intro m
  induction m with
  | zero =>
    intro x hx
    obtain rfl : x = 6 := by omega
    exact br_t (nI_le (Nat.le_refl 6) (by omega)) (nm_r (nI_1 z) K)
  | succ m ih =>
    intro x hx
    exact br_f (nI_ge (b := 6) (by omega) (by omega)) ⟨eg_in (by omega) (by omega), eg_in (by omega) (by omega), nm_r (eg_up (eg_cl (by omega)) (by rw [eg_cl (by omega)])) (nm_r (nI_1 x) (ih (x + 1) (by omega)))⟩
theorem eg_yap {post : SY → Prop} {t : Nat} {kd : Int32} (hz : z < 24) (ht : t < 6) (K : post (nI C, nI T, nI L, nI R, up, nI lf, nI (z + 1), nI kp, upd ek z kd, upd es z (nI t), eg_sg nt (z * 6) 6 (fun c => nN (t * 6 + c)), bV, bS, bN, ac, aN, yl, ym, nV, nS, nN)) : wpY_append post (nI C, nI T, nI L, nI R, up, nI lf, nI z, nI kp, ek, es, nt, bV, bS, bN, ac, aN, yl, ym, nV, nS, nN) kd (nI t) := by
  have cz : (nI z).toNatClampNeg = z := nI_clamp (by omega)
  have hv : vp_in (nI z) 24 := vp_in_nI hz (by omega)
  have H := eg_yap22 (ek := upd ek z kd) (es := upd es z (nI t)) hz ht K 6 0 rfl
  rw [eg_sg0] at H
  exact ⟨hv, nm_r (e' := upd ek z kd) (by rw [cz]) ⟨hv, nm_r (e' := upd es z (nI t)) (by rw [cz]) ⟨7, H⟩⟩⟩
theorem eg_yb45 {post : Int32 → SY → Prop} {t : Nat} (ht : t < 6) (K : post (nI t) (nI C, nI T, nI L, nI R, up, nI lf, nI z, nI kp, ek, es, nt, bV, bS, bN, ac, eg_sg aN (t * 6) 6 (fun _ => 0), eg_sg yl (t * 6) 6 (fun _ => 0), eg_sg ym (t * 6) 6 (fun _ => nI L), nV, nS, nN)) :
    ∀ m x, x + m = 6 → wY_begin_45 post (nI t) (nI C) (nI T) (nI L) (nI R) up (nI lf) (nI z) (nI kp) (m + 1) (nI x) ek es nt bV bS bN ac (eg_sg aN (t * 6) x (fun _ => 0)) (eg_sg yl (t * 6) x (fun _ => 0)) (eg_sg ym (t * 6) x (fun _ => nI L)) nV nS nN := by
  intro m
  induction m with
  | zero =>
    intro x hx
    obtain rfl : x = 6 := by omega
    exact br_t (nI_le (Nat.le_refl 6) (by omega)) K
  | succ m ih =>
    intro x hx
    have hc := eg_cl (t := t) (c := x) (by omega)
    have hv : vp_in (nI t * 6 + nI x) 36 := eg_in (by omega) (by omega)
    exact br_f (nI_ge (b := 6) (by omega) (by omega)) ⟨hv, nm_r (eg_up hc rfl) ⟨hv, nm_r (eg_up hc rfl) ⟨hv, nm_r (eg_up hc rfl) (nm_r (nI_1 x) (ih (x + 1) (by omega)))⟩⟩⟩
theorem eg_nb0 : vp_nar .boolean 0 = 0 := rfl
theorem eg_nb1 : vp_nar .boolean 1 = 1 := rfl
theorem eg_ybg1 {post : Int32 → SY → Prop} {t : Nat} (ht : t < T) (hT : T ≤ 6) (h0 : nS t = 0) (hn : ∀ s, s < t → ¬ nS s = 0) (K : post (nI t) (nI C, nI T, nI L, nI R, up, nI lf, nI z, nI kp, ek, es, nt, bV, bS, bN, upd ac t 1, eg_sg aN (t * 6) 6 (fun _ => 0), eg_sg yl (t * 6) 6 (fun _ => 0), eg_sg ym (t * 6) 6 (fun _ => nI L), nV, nS, nN)) :
    ∀ m s, s + m = t → wY_begin_19 post (nI C) (nI T) (nI L) (nI R) up (nI lf) (nI z) (nI kp) ek es nt bV bS bN ac aN yl ym nV nS nN (m + 1) (nI s) := by
  intro m
  induction m with
  | zero =>
    intro s hs
    obtain rfl : s = t := by omega
    have cs : (nI s).toNatClampNeg = s := nI_clamp (by omega)
    have hv : vp_in (nI s) 6 := vp_in_nI (by omega) (by omega)
    have H := eg_yb45 (ac := upd ac s 1) (by omega) K 6 0 rfl
    rw [eg_sg0, eg_sg0, eg_sg0] at H
    exact br_f (nI_ge (by omega) (by omega)) ⟨hv, br_t (by rw [cs]; exact h0) ⟨hv, nm_r (e' := upd ac s 1) (by rw [cs, eg_nb1]) ⟨7, H⟩⟩⟩
  | succ m ih =>
    intro s hs
    have cs : (nI s).toNatClampNeg = s := nI_clamp (by omega)
    exact br_f (nI_ge (by omega) (by omega)) ⟨vp_in_nI (by omega) (by omega), br_f (by rw [cs]; exact hn s (by omega)) (nm_r (nI_1 s) (ih (s + 1) (by omega)))⟩
theorem eg_ybg0 {post : Int32 → SY → Prop} (hT : T ≤ 6) (hn : ∀ s, s < T → ¬ nS s = 0) (K : post 1003 (nI C, nI T, nI L, nI R, up, nI lf, nI z, nI kp, ek, es, nt, bV, bS, bN, ac, aN, yl, ym, nV, nS, nN)) :
    ∀ m s, s + m = T → wY_begin_19 post (nI C) (nI T) (nI L) (nI R) up (nI lf) (nI z) (nI kp) ek es nt bV bS bN ac aN yl ym nV nS nN (m + 1) (nI s) := by
  intro m
  induction m with
  | zero =>
    intro s hs
    obtain rfl : s = T := by omega
    exact br_t (nI_le (Nat.le_refl _) (by omega)) K
  | succ m ih =>
    intro s hs
    have cs : (nI s).toNatClampNeg = s := nI_clamp (by omega)
    exact br_f (nI_ge (by omega) (by omega)) ⟨vp_in_nI (by omega) (by omega), br_f (by rw [cs]; exact hn s (by omega)) (nm_r (nI_1 s) (ih (s + 1) (by omega)))⟩
/-! checkpoint -/
theorem eg_yc144 {post : Int32 → SY → Prop} {J : eg_TJ} {x : Nat} (hx : x + kp < 24) (K : J (nI (x + 1)) ek es (eg_sg nt (x * 6) 6 (fun c => nt ((x + kp) * 6 + c))) bV bS bN ac aN yl ym nV nS nN) :
    ∀ m y, y + m = 6 → wY_checkpoint_144 post J (nI kp) (nI x) (nI C) (nI T) (nI L) (nI R) up (nI lf) (nI z) (nI kp) (m + 1) (nI y) ek es (eg_sg nt (x * 6) y (fun c => nt ((x + kp) * 6 + c))) bV bS bN ac aN yl ym nV nS nN := by
  intro m
  induction m with
  | zero =>
    intro y hy
    obtain rfl : y = 6 := by omega
    exact br_t (nI_le (Nat.le_refl 6) (by omega)) (nm_r (nI_1 x) K)
  | succ m ih =>
    intro y hy
    have v1 : vp_in ((nI x + nI kp) * 6 + nI y) 144 := by rw [nI_add]; exact eg_in (by omega) (by omega)
    have c1 : ((nI x + nI kp) * 6 + nI y).toNatClampNeg = (x + kp) * 6 + y := by rw [nI_add]; exact eg_cl (by omega)
    exact br_f (nI_ge (b := 6) (by omega) (by omega)) ⟨v1, eg_in (by omega) (by omega), nm_r (eg_up (eg_cl (by omega)) (by rw [c1, eg_sgo (by omega)])) (nm_r (nI_1 y) (ih (y + 1) (by omega)))⟩
theorem eg_yc104 {post : Int32 → SY → Prop} (hz : z ≤ 24) (hk : kp ≤ z)
    (K : post (nI kp) (nI C, nI T, nI L, nI R, up, nI lf, nI (z - kp), 0, eg_sg ek 0 (z - kp) (fun i => ek (i + kp)), eg_sg es 0 (z - kp) (fun i => es (i + kp)), eg_mv 6 kp nt (z - kp), bV, bS, bN, ac, aN, yl, ym, nV, nS, nN)) :
    ∀ m x, x + m + kp = z → wY_checkpoint_104 post (nI kp) (nI C) (nI T) (nI L) (nI R) up (nI lf) (nI z) (nI kp) (m + 1) (nI x) (eg_sg ek 0 x (fun i => ek (i + kp))) (eg_sg es 0 x (fun i => es (i + kp))) (eg_mv 6 kp nt x) bV bS bN ac aN yl ym nV nS nN := by
  have es' : nI z - nI kp = nI (z - kp) := pk_sub hk
  intro m
  induction m with
  | zero =>
    intro x hx
    obtain rfl : x = z - kp := by omega
    exact br_t (by rw [es']; exact nI_le (by omega) (by omega)) (nm_r es' K)
  | succ m ih =>
    intro x hx
    have c1 : (nI x + nI kp).toNatClampNeg = x + kp := by rw [nI_add]; exact nI_clamp (by omega)
    have c2 : (nI x).toNatClampNeg = x := nI_clamp (by omega)
    have v1 : vp_in (nI x + nI kp) 24 := by rw [nI_add]; exact vp_in_nI (by omega) (by omega)
    have v2 : vp_in (nI x) 24 := vp_in_nI (by omega) (by omega)
    have H := ih (x + 1) (by omega)
    rw [← eg_mvS (Nat.le_refl 6)] at H
    have H2 := eg_yc144 (C := C) (T := T) (L := L) (R := R) (z := z) (kp := kp) (lf := lf) (up := up) (post := post) (by omega) H 6 0 rfl
    rw [eg_sg0] at H2
    refine br_f (by rw [es']; exact nI_ge (by omega) (by omega)) ⟨v1, v2, nm_r (e' := eg_sg ek 0 (x + 1) (fun i => ek (i + kp))) ?_ ⟨v1, v2, nm_r (e' := eg_sg es 0 (x + 1) (fun i => es (i + kp))) ?_ ⟨7, H2⟩⟩⟩
    · rw [c1, c2, eg_sgo (by omega)]
      exact eg_up (by omega) rfl
    · rw [c1, c2, eg_sgo (by omega)]
      exact eg_up (by omega) rfl
theorem eg_yc73 {post : Int32 → SY → Prop} (K : ∃ n, wY_checkpoint_104 post (nI kp) (nI C) (nI T) (nI L) (nI R) up (nI lf) (nI z) (nI kp) n 0 ek es nt bV bS (eg_sg bN 0 36 nN) ac aN yl ym nV nS nN) :
    ∀ m x, x + m = 36 → wY_checkpoint_73 post (nI C) (nI T) (nI L) (nI R) up (nI lf) (nI z) (nI kp) (m + 1) (nI x) ek es nt bV bS (eg_sg bN 0 x nN) ac aN yl ym nV nS nN := by
  intro m
  induction m with
  | zero =>
    intro x hx
    obtain rfl : x = 36 := by omega
    exact br_t (nI_le (Nat.le_refl 36) (by omega)) K
  | succ m ih =>
    intro x hx
    have c1 : (nI x).toNatClampNeg = x := nI_clamp (by omega)
    have v1 : vp_in (nI x) 36 := vp_in_nI (by omega) (by omega)
    exact br_f (nI_ge (b := 36) (by omega) (by omega)) ⟨v1, v1, nm_r (eg_up (by omega) (by rw [c1])) (nm_r (nI_1 x) (ih (x + 1) (by omega)))⟩
theorem eg_yc47 {post : Int32 → SY → Prop} (K : ∃ n, wY_checkpoint_73 post (nI C) (nI T) (nI L) (nI R) up (nI lf) (nI z) (nI kp) n 0 ek es nt bV (eg_sg bS 0 6 nS) bN ac aN yl ym nV nS nN) :
    ∀ m x, x + m = 6 → wY_checkpoint_47 post (nI C) (nI T) (nI L) (nI R) up (nI lf) (nI z) (nI kp) (m + 1) (nI x) ek es nt bV (eg_sg bS 0 x nS) bN ac aN yl ym nV nS nN := by
  intro m
  induction m with
  | zero =>
    intro x hx
    obtain rfl : x = 6 := by omega
    exact br_t (nI_le (Nat.le_refl 6) (by omega)) K
  | succ m ih =>
    intro x hx
    have c1 : (nI x).toNatClampNeg = x := nI_clamp (by omega)
    have v1 : vp_in (nI x) 6 := vp_in_nI (by omega) (by omega)
    exact br_f (nI_ge (b := 6) (by omega) (by omega)) ⟨v1, v1, nm_r (eg_up (by omega) (by rw [c1])) (nm_r (nI_1 x) (ih (x + 1) (by omega)))⟩
theorem eg_yc21 {post : Int32 → SY → Prop} (K : ∃ n, wY_checkpoint_47 post (nI C) (nI T) (nI L) (nI R) up (nI lf) (nI z) (nI kp) n 0 ek es nt (eg_sg bV 0 6 nV) bS bN ac aN yl ym nV nS nN) :
    ∀ m x, x + m = 6 → wY_checkpoint_21 post (nI C) (nI T) (nI L) (nI R) up (nI lf) (nI z) (nI kp) (m + 1) (nI x) ek es nt (eg_sg bV 0 x nV) bS bN ac aN yl ym nV nS nN := by
  intro m
  induction m with
  | zero =>
    intro x hx
    obtain rfl : x = 6 := by omega
    exact br_t (nI_le (Nat.le_refl 6) (by omega)) K
  | succ m ih =>
    intro x hx
    have c1 : (nI x).toNatClampNeg = x := nI_clamp (by omega)
    have v1 : vp_in (nI x) 6 := vp_in_nI (by omega) (by omega)
    exact br_f (nI_ge (b := 6) (by omega) (by omega)) ⟨v1, v1, nm_r (eg_up (by omega) (by rw [c1])) (nm_r (nI_1 x) (ih (x + 1) (by omega)))⟩
theorem eg_yck {post : Int32 → SY → Prop} (hz : z ≤ 24) (hk : kp ≤ z)
    (K : post (nI kp) (nI C, nI T, nI L, nI R, up, nI lf, nI (z - kp), 0, eg_sg ek 0 (z - kp) (fun i => ek (i + kp)), eg_sg es 0 (z - kp) (fun i => es (i + kp)), eg_mv 6 kp nt (z - kp), eg_sg bV 0 6 nV, eg_sg bS 0 6 nS, eg_sg bN 0 36 nN, ac, aN, yl, ym, nV, nS, nN)) :
    ∃ n, wY_checkpoint_21 post (nI C) (nI T) (nI L) (nI R) up (nI lf) (nI z) (nI kp) n 0 ek es nt bV bS bN ac aN yl ym nV nS nN := by
  have H104 := eg_yc104 hz hk K (z - kp) 0 (by omega)
  rw [eg_sg0, eg_sg0, eg_mv0] at H104
  have H73 := eg_yc73 ⟨_, H104⟩ 36 0 rfl
  rw [eg_sg0] at H73
  have H47 := eg_yc47 ⟨_, H73⟩ 6 0 rfl
  rw [eg_sg0] at H47
  have H21 := eg_yc21 ⟨_, H47⟩ 6 0 rfl
  rw [eg_sg0] at H21
  exact ⟨7, H21⟩
theorem eg_ycr {post : Int32 → SY → Prop} (K : post (nI kp) (nI C, nI T, nI L, nI R, 0, nI kp, nI z, nI kp, ek, es, nt, bV, bS, bN, eg_sg ac 0 6 (fun _ => 0), aN, yl, ym, nV, nS, nN)) :
    ∀ m x, x + m = 6 → wY_crash_10 post (nI C) (nI T) (nI L) (nI R) up (nI lf) (nI z) (nI kp) (m + 1) (nI x) ek es nt bV bS bN (eg_sg ac 0 x (fun _ => 0)) aN yl ym nV nS nN := by
  intro m
  induction m with
  | zero =>
    intro x hx
    obtain rfl : x = 6 := by omega
    exact br_t (nI_le (Nat.le_refl 6) (by omega)) K
  | succ m ih =>
    intro x hx
    have c1 : (nI x).toNatClampNeg = x := nI_clamp (by omega)
    exact br_f (nI_ge (b := 6) (by omega) (by omega)) ⟨vp_in_nI (by omega) (by omega), nm_r (eg_up (by omega) eg_nb0) (nm_r (nI_1 x) (ih (x + 1) (by omega)))⟩
end
section
variable {C T L R z kp lf : Nat} {up : Int32} {va st ne gl gm ek es en : Nat → Int32} {nt bV bS bN ac aN yl ym nV nS nN : Nat → Int32}
/-- writeBack in lockstep -/
theorem eg_wb {c : Nat} (hz : z ≤ 24) (hk : kp ≤ z) (hc : c < 6) (hn : ∀ e, e < z → en (e * 6 + c) = nt (e * 6 + c)) :
    ∀ m e E, e + m = z → kp ≤ E → E ≤ e → ∃ F, kp ≤ F ∧ F ≤ z ∧ (∀ post : Int32 → SX → Prop, post (nI (F - kp)) (0, 1, 2, 0, 1, 2, 0, 1, nI C, nI T, nI L, nI R, nI z, nI F, up, nI lf, va, st, ne, gl, gm, ek, es, en) → wX_writeBack_31 post (nI c) 0 1 2 0 1 2 0 1 (nI C) (nI T) (nI L) (nI R) (nI z) (nI kp) up (nI lf) va st ne gl gm ek es en (m + 1) (nI E) (nI e)) ∧ (∀ post : Int32 → SY → Prop, post (nI (F - kp)) (nI C, nI T, nI L, nI R, up, nI lf, nI z, nI F, ek, es, nt, bV, bS, bN, ac, aN, yl, ym, nV, nS, nN) → wY_writeBack_31 post (nI c) (nI C) (nI T) (nI L) (nI R) up (nI lf) (nI z) (nI kp) ek es nt bV bS bN ac aN yl ym nV nS nN (m + 1) (nI E) (nI e)) := by
  intro m
  induction m with
  | zero =>
    intro e E he h1 h2
    obtain rfl : e = z := by omega
    exact ⟨E, h1, h2, fun post K => br_t (nI_le (Nat.le_refl _) (by omega)) (nm_r (pk_sub h1) K), fun post K => br_t (nI_le (Nat.le_refl _) (by omega)) (nm_r (pk_sub h1) K)⟩
  | succ m ih =>
    intro e E he h1 h2
    have ce : (nI e).toNatClampNeg = e := nI_clamp (by omega)
    have hv : vp_in (nI e) 24 := vp_in_nI (by omega) (by omega)
    have hw : vp_in (nI e * 6 + nI c) 144 := eg_in (by omega) (by omega)
    have hg : ¬ nI z ≤ nI e := nI_ge (by omega) (by omega)
    have cc := eg_cl (t := e) (c := c) (by omega)
    by_cases k1 : ek e = 1
    · have k1' : ek (nI e).toNatClampNeg = 1 := by rw [ce]; exact k1
      by_cases n0 : en (e * 6 + c) = 0
      · obtain ⟨F, f1, f2, fX, fY⟩ := ih (e + 1) E (by omega) h1 (by omega)
        refine ⟨F, f1, f2, fun post K => ?_, fun post K => ?_⟩
        · exact br_f hg ⟨hv, br_t k1' ⟨hw, br_t (by rw [cc]; exact n0) (nm_r (nI_1 e) (fX post K))⟩⟩
        · exact br_f hg ⟨hv, br_t k1' ⟨hw, br_t (by rw [cc, ← hn e (by omega)]; exact n0) (nm_r (nI_1 e) (fY post K))⟩⟩
      · obtain ⟨F, f1, f2, fX, fY⟩ := ih (e + 1) (e + 1) (by omega) (by omega) (by omega)
        refine ⟨F, f1, f2, fun post K => ?_, fun post K => ?_⟩
        · exact br_f hg ⟨hv, br_t k1' ⟨hw, br_f (by rw [cc]; exact n0) (nm_r (nI_1 e) (nm_r (nI_1 e) (fX post K)))⟩⟩
        · exact br_f hg ⟨hv, br_t k1' ⟨hw, br_f (by rw [cc, ← hn e (by omega)]; exact n0) (nm_r (nI_1 e) (nm_r (nI_1 e) (fY post K)))⟩⟩
    · have k1' : ¬ ek (nI e).toNatClampNeg = 1 := by rw [ce]; exact k1
      obtain ⟨F, f1, f2, fX, fY⟩ := ih (e + 1) E (by omega) h1 (by omega)
      refine ⟨F, f1, f2, fun post K => ?_, fun post K => ?_⟩
      · exact br_f hg ⟨hv, br_f k1' (nm_r (nI_1 e) (fX post K))⟩
      · exact br_f hg ⟨hv, br_f k1' (nm_r (nI_1 e) (fY post K))⟩
end
end
section
/-! the relation -/
def eg_Cf (C T L R z kp : Nat) : Prop := 1 ≤ C ∧ C ≤ 6 ∧ 1 ≤ T ∧ T ≤ 6 ∧ 1 ≤ L ∧ L ≤ 60 ∧ 4 ≤ R ∧ R ≤ 24 ∧ kp ≤ z ∧ z ≤ R
def eg_Wh (T z : Nat) (es : Nat → Int32) : Prop := ∀ e, e < z → ∃ t, t < T ∧ es e = nI t
def eg_Ag (C : Nat) (a b : Nat → Int32) : Prop := ∀ i, i % 6 < C → a i = b i
def eg_B2 (T : Nat) (bS : Nat → Int32) : Prop := ∀ t, t < 6 → (bS t = 0 ∨ (bS t = 2 ∧ t < T))
def eg_Ac (T : Nat) (ac S : Nat → Int32) : Prop := ∀ t, t < 6 → ¬ ac t = 0 → t < T ∧ S t = 0
def eg_Rg (C L : Nat) (V S N : Nat → Int32) : Prop := ∀ c, c < C → eg_All (V c).toInt (eg_d S N c (-1)) 0 L
def eg_Md (up : Int32) (m z kp lf : Nat) (ac : Nat → Int32) : Prop := (¬ up = 0 → m = z) ∧ (up = 0 → m + lf = kp ∧ z = kp ∧ ∀ t, t < 6 → ac t = 0)
def eg_Inv (C T L R z kp lf : Nat) (up : Int32) (va st ne gl gm ek es en nt bV bS bN ac aN yl ym : Nat → Int32) (m : Nat) : Prop :=
  eg_Cf C T L R z kp ∧ eg_Wh T z es ∧ eg_Ag C en nt ∧ eg_Ag C gl yl ∧ eg_Ag C gm ym ∧ eg_Im C 1 va st ne bV bS bN ∧ eg_B2 T bS ∧ eg_Ac T ac (eg_vS ek es bS z) ∧
  eg_Im C 0 va st ne (eg_vV ek nt bV m) (eg_oS ac (eg_vS ek es bS m)) (eg_oN ac aN (eg_vN ek es nt bN m)) ∧
  (∀ j, j ≤ z → eg_Rg C L (eg_vV ek nt bV j) (eg_vS ek es bS j) (eg_vN ek es nt bN j)) ∧
  eg_Rg C L (eg_vV ek nt bV z) (eg_oS ac (eg_vS ek es bS z)) (eg_oN ac aN (eg_vN ek es nt bN z)) ∧ eg_Md up m z kp lf ac
/-- the relation: the two configurations, logs and guards agree; the component's images are the reference's base and the view that it has reached -/
def i_Rel (k : Nat) (u : SX) (v : SY) : Prop := ∃ C T L R z kp lf m : Nat, ∃ up : Int32, ∃ va st ne gl gm ek es en nt bV bS bN ac aN yl ym nV nS nN : Nat → Int32, u = (0, 1, 2, 0, 1, 2, 0, 1, nI C, nI T, nI L, nI R, nI z, nI kp, up, nI lf, va, st, ne, gl, gm, ek, es, en) ∧ v = (nI C, nI T, nI L, nI R, up, nI lf, nI z, nI kp, ek, es, nt, bV, bS, bN, ac, aN, yl, ym, nV, nS, nN) ∧ eg_Inv C T L R z kp lf up va st ne gl gm ek es en nt bV bS bN ac aN yl ym m
theorem eg_el {P : SX → SY → Prop} {k : Nat} {u : SX} {v : SY} (h : ∀ (C T L R z kp lf m : Nat) (up : Int32) (va st ne gl gm ek es en nt bV bS bN ac aN yl ym nV nS nN : Nat → Int32), eg_Inv C T L R z kp lf up va st ne gl gm ek es en nt bV bS bN ac aN yl ym m → P (0, 1, 2, 0, 1, 2, 0, 1, nI C, nI T, nI L, nI R, nI z, nI kp, up, nI lf, va, st, ne, gl, gm, ek, es, en) (nI C, nI T, nI L, nI R, up, nI lf, nI z, nI kp, ek, es, nt, bV, bS, bN, ac, aN, yl, ym, nV, nS, nN)) (I : i_Rel k u v) : P u v :=
  Exists.elim I fun C I => Exists.elim I fun T I => Exists.elim I fun L I => Exists.elim I fun R I => Exists.elim I fun z I => Exists.elim I fun kp I => Exists.elim I fun lf I => Exists.elim I fun m I => Exists.elim I fun up I => Exists.elim I fun va I => Exists.elim I fun st I => Exists.elim I fun ne I => Exists.elim I fun gl I => Exists.elim I fun gm I => Exists.elim I fun ek I => Exists.elim I fun es I => Exists.elim I fun en I => Exists.elim I fun nt I => Exists.elim I fun bV I => Exists.elim I fun bS I => Exists.elim I fun bN I => Exists.elim I fun ac I => Exists.elim I fun aN I => Exists.elim I fun yl I => Exists.elim I fun ym I => Exists.elim I fun nV I => Exists.elim I fun nS I => Exists.elim I fun nN I => (congr (congrArg P I.1) I.2.1).mpr (h C T L R z kp lf m up va st ne gl gm ek es en nt bV bS bN ac aN yl ym nV nS nN I.2.2)
section
variable {C T L R z kp lf : Nat} {up : Int32} {va st ne gl gm ek es en : Nat → Int32} {nt bV bS bN ac aN yl ym nV nS nN : Nat → Int32}
theorem eg_ii {k m : Nat} (h : eg_Inv C T L R z kp lf up va st ne gl gm ek es en nt bV bS bN ac aN yl ym m) : i_Rel k (0, 1, 2, 0, 1, 2, 0, 1, nI C, nI T, nI L, nI R, nI z, nI kp, up, nI lf, va, st, ne, gl, gm, ek, es, en) (nI C, nI T, nI L, nI R, up, nI lf, nI z, nI kp, ek, es, nt, bV, bS, bN, ac, aN, yl, ym, nV, nS, nN) := ⟨C, T, L, R, z, kp, lf, m, up, va, st, ne, gl, gm, ek, es, en, nt, bV, bS, bN, ac, aN, yl, ym, nV, nS, nN, rfl, rfl, h⟩
end
theorem i_up {k : Nat} {u : SX} {v : SY} (h : i_Rel k u v) : i_Rel (k + 5) u v := h
end
section
/-! the live facts, and what each change keeps -/
theorem eg_nm1 {t : Nat} (h : t < 2 ^ 31) : ¬ nI t = -1 := by
  intro e
  have h1 := congrArg Int32.toInt e
  rw [nI_toInt h, show (-1 : Int32).toInt = -1 by decide] at h1
  omega
theorem eg_dc {S S' N N' : Nat → Int32} {c : Nat} {w : Int32} (hS : ∀ t, t < 6 → S t = S' t) (hN : ∀ t, t < 6 → ¬ S t = 0 → N (t * 6 + c) = N' (t * 6 + c)) : ∀ t, t < 6 → eg_d S N c w t = eg_d S' N' c w t := by
  intro t ht
  unfold eg_d
  rw [← hS t ht]
  by_cases h : S t = 0
  · rw [if_pos h, if_pos h]
  · rw [if_neg h, if_neg h, hN t ht h]
theorem eg_dw {S N : Nat → Int32} {c t : Nat} {w : Int32} (ht : t < 6) : eg_d S N c w t = eg_d S N c (-1) t ∨ eg_d S N c w t = 0 := by
  unfold eg_d
  by_cases h : S t = 0
  · exact Or.inr (if_pos h)
  · rw [if_neg h, if_neg h, if_neg (eg_nm1 (by omega))]
    by_cases e : nI t = w
    · exact Or.inr (if_pos e)
    · exact Or.inl (if_neg e)
theorem eg_do {S N ac aN : Nat → Int32} {c t : Nat} {w : Int32} (h : ¬ ac t = 0 → S t = 0) (hc : c < 6) : eg_d S N c w t = eg_d (eg_oS ac S) (eg_oN ac aN N) c w t ∨ eg_d S N c w t = 0 := by
  by_cases e : ac t = 0
  · left
    have e1 : eg_oS ac S t = S t := if_pos e
    have e2 : eg_oN ac aN N (t * 6 + c) = N (t * 6 + c) := if_pos (by rw [(eg_dm hc).1]; exact e)
    unfold eg_d
    rw [e1, e2]
  · right
    exact if_pos (h e)
theorem eg_AgS {C r : Nat} {a b f f' : Nat → Int32} (hC : C ≤ 6) (h : eg_Ag C a b) (hf : ∀ c, c < C → f c = f' c) : eg_Ag C (eg_sg a (r * 6) C f) (eg_sg b (r * 6) 6 f') := by
  intro i hi
  by_cases q : i / 6 = r
  · rw [show i = r * 6 + i % 6 by omega, eg_sgi hi, eg_sgi (by omega), hf _ hi]
  · rw [eg_sgo (by omega), eg_sgo (by omega), h i hi]
section
variable {C T L R z kp lf : Nat} {up : Int32} {va st ne gl gm ek es en : Nat → Int32} {nt bV bS bN ac aN yl ym nV nS nN : Nat → Int32}
theorem eg_lv (hI : eg_Inv C T L R z kp lf up va st ne gl gm ek es en nt bV bS bN ac aN yl ym z) (hx : eg_Ex nV nS nN (eg_vV ek nt bV z) (eg_oS ac (eg_vS ek es bS z)) (eg_oN ac aN (eg_vN ek es nt bN z))) :
    (∀ c, c < C → va c = nV c) ∧ (∀ t, t < 6 → st t = nS t) ∧ (∀ t c, t < 6 → c < C → ¬ st t = 0 → ne (t * 6 + c) = nN (t * 6 + c)) := by
  obtain ⟨hCf, hWh, hA1, hA2, hA3, hB, hB2, hAc, hIm, hR, hRo, hMd⟩ := hI
  obtain ⟨c1, c2, t1, t2, l1, l2, r1, r2, k1, z1⟩ := hCf
  obtain ⟨i1, i2, i3⟩ := eg_Im0 hIm
  refine ⟨fun c hc => (i1 c hc).trans (hx.1 c (by omega)).symm, fun t ht => (i2 t ht).trans (hx.2.1 t ht).symm, fun t c ht hc h0 => ?_⟩
  rw [i2 t ht] at h0
  have := i3 (t * 6 + c) (by omega) (by rw [(eg_dm (by omega)).2]; exact hc) (by rw [(eg_dm (by omega)).1]; exact h0)
  rw [this, hx.2.2 _ (by omega)]
theorem eg_lst (hI : eg_Inv C T L R z kp lf up va st ne gl gm ek es en nt bV bS bN ac aN yl ym z) : (∀ t, T ≤ t → t < 6 → st t = 0) ∧ (∀ t, t < 6 → ac t = 0 → (st t = 0 ∨ st t = 2)) ∧ (∀ t, t < 6 → ¬ ac t = 0 → st t = 1) := by
  obtain ⟨hCf, hWh, hA1, hA2, hA3, hB, hB2, hAc, hIm, hR, hRo, hMd⟩ := hI
  obtain ⟨c1, c2, t1, t2, l1, l2, r1, r2, k1, z1⟩ := hCf
  obtain ⟨i1, i2, i3⟩ := eg_Im0 hIm
  have hv : ∀ t, t < 6 → (eg_vS ek es bS z t = 0 ∨ (eg_vS ek es bS z t = 2 ∧ t < T)) := fun t ht => eg_vS2 (hB2 t ht) t2 z hWh
  have o0 : ∀ t, ac t = 0 → eg_oS ac (eg_vS ek es bS z) t = eg_vS ek es bS z t := fun t h => if_pos h
  have o1 : ∀ t, ¬ ac t = 0 → eg_oS ac (eg_vS ek es bS z) t = 1 := fun t h => if_neg h
  refine ⟨fun t h1 h2 => ?_, fun t ht h => ?_, fun t ht h => (i2 t ht).trans (o1 t h)⟩
  · have ha : ac t = 0 := Classical.byContradiction (fun q => absurd (hAc t h2 q).1 (by omega))
    rw [i2 t h2, o0 t ha]
    rcases hv t h2 with q | q
    · exact q
    · exact absurd q.2 (by omega)
  · rw [i2 t ht, o0 t h]
    rcases hv t ht with q | q
    · exact Or.inl q
    · exact Or.inr q.1
theorem eg_lrg (hI : eg_Inv C T L R z kp lf up va st ne gl gm ek es en nt bV bS bN ac aN yl ym z) : ∀ c, c < C → eg_All (va c).toInt (eg_d st ne c (-1)) 0 L := by
  obtain ⟨hCf, hWh, hA1, hA2, hA3, hB, hB2, hAc, hIm, hR, hRo, hMd⟩ := hI
  obtain ⟨c1, c2, t1, t2, l1, l2, r1, r2, k1, z1⟩ := hCf
  obtain ⟨i1, i2, i3⟩ := eg_Im0 hIm
  intro c hc
  rw [i1 c hc]
  refine eg_AllC (fun t ht => (eg_dc i2 (fun s hs h0 => ?_) t ht).symm) (hRo c hc)
  rw [i2 s hs] at h0
  exact i3 (s * 6 + c) (by omega) (by rw [(eg_dm (by omega)).2]; exact hc) (by rw [(eg_dm (by omega)).1]; exact h0)
theorem eg_w6 (hI : eg_Inv C T L R z kp lf up va st ne gl gm ek es en nt bV bS bN ac aN yl ym z) : ∀ e, e < z → ∃ t, t < 6 ∧ es e = nI t := by
  obtain ⟨hCf, hWh, _⟩ := hI
  obtain ⟨c1, c2, t1, t2, l1, l2, r1, r2, k1, z1⟩ := hCf
  intro e he
  obtain ⟨t, ht, h⟩ := hWh e he
  exact ⟨t, by omega, h⟩
/-! begin -/
theorem eg_Ibg {t : Nat} (hI : eg_Inv C T L R z kp lf up va st ne gl gm ek es en nt bV bS bN ac aN yl ym z) (hu : ¬ up = 0) (ht : t < T) (h0 : st t = 0) :
    eg_Inv C T L R z kp lf up va (upd st t 1) (eg_sg ne (t * 6) C (fun _ => 0)) (eg_sg gl (t * 6) C (fun _ => 0)) (eg_sg gm (t * 6) C (fun _ => nI L)) ek es en nt bV bS bN (upd ac t 1) (eg_sg aN (t * 6) 6 (fun _ => 0)) (eg_sg yl (t * 6) 6 (fun _ => 0)) (eg_sg ym (t * 6) 6 (fun _ => nI L)) z := by
  obtain ⟨hCf, hWh, hA1, hA2, hA3, hB, hB2, hAc, hIm, hR, hRo, hMd⟩ := hI
  have hCf' := hCf
  obtain ⟨c1, c2, t1, t2, l1, l2, r1, r2, k1, z1⟩ := hCf
  obtain ⟨i1, i2, i3⟩ := eg_Im0 hIm
  have ht6 : t < 6 := by omega
  have hst := i2 t ht6
  rw [h0] at hst
  have ha : ac t = 0 := Classical.byContradiction (fun q => by
    have : eg_oS ac (eg_vS ek es bS z) t = 1 := if_neg q
    rw [this] at hst
    exact absurd hst (by decide))
  have hv0 : eg_vS ek es bS z t = 0 := by
    have : eg_oS ac (eg_vS ek es bS z) t = eg_vS ek es bS z t := if_pos ha
    rw [← this, ← hst]
  have oS' : ∀ s, eg_oS (upd ac t 1) (eg_vS ek es bS z) s = if s = t then 1 else eg_oS ac (eg_vS ek es bS z) s := by
    intro s
    show (if upd ac t 1 s = 0 then eg_vS ek es bS z s else 1) = _
    by_cases e : s = t
    · rw [e, pk_us, if_pos rfl, if_neg (by decide)]
    · rw [pk_un e, if_neg e]; rfl
  have oN' : ∀ i, eg_oN (upd ac t 1) (eg_sg aN (t * 6) 6 (fun _ => 0)) (eg_vN ek es nt bN z) i = if i / 6 = t then 0 else eg_oN ac aN (eg_vN ek es nt bN z) i := by
    intro i
    show (if upd ac t 1 (i / 6) = 0 then eg_vN ek es nt bN z i else eg_sg aN (t * 6) 6 (fun _ => 0) i) = _
    by_cases e : i / 6 = t
    · rw [e, pk_us, if_pos rfl, if_neg (by decide), show i = t * 6 + i % 6 by omega, eg_sgi (by omega)]
    · rw [pk_un e, if_neg e, eg_sgo (by omega)]; rfl
  refine ⟨hCf', hWh, hA1, eg_AgS c2 hA2 (fun _ _ => rfl), eg_AgS c2 hA3 (fun _ _ => rfl), ⟨hB.1, fun s hs => ?_, fun i hi h6 hs => ?_⟩, hB2, fun s hs hn => ?_, eg_Im0m i1 (fun s hs => ?_) (fun i hi h6 hs => ?_), hR, fun c hc => ?_, hMd.1, fun q => absurd q hu⟩
  · rw [pk_un (by omega)]
    exact hB.2.1 s hs
  · rw [eg_sgo (by omega)]
    exact hB.2.2 i hi h6 hs
  · by_cases e : s = t
    · rw [e]
      exact ⟨ht, hv0⟩
    · rw [pk_un e] at hn
      exact hAc s hs hn
  · rw [oS']
    by_cases e : s = t
    · rw [e, pk_us, if_pos rfl]
    · rw [pk_un e, if_neg e, i2 s hs]
  · rw [oS'] at hs
    rw [oN']
    by_cases e : i / 6 = t
    · rw [if_pos e, show i = t * 6 + i % 6 by omega, eg_sgi (by omega)]
    · rw [if_neg e] at hs ⊢
      rw [eg_sgo (by omega)]
      exact i3 i hi h6 hs
  · refine eg_AllC (fun s hs => ?_) (hRo c hc)
    unfold eg_d
    rw [oS', oN', (eg_dm (by omega)).1]
    by_cases e : s = t
    · rw [if_pos e, if_pos e, e, if_pos hst.symm, if_neg (show ¬ (1 : Int32) = 0 by decide)]
      split <;> rfl
    · rw [if_neg e, if_neg e]
end
end
section
/-! reserve, abort of an active slot, flush, append -/
section
variable {C T L R z kp lf : Nat} {up : Int32} {va st ne gl gm ek es en : Nat → Int32} {nt bV bS bN ac aN yl ym nV nS nN : Nat → Int32}
theorem eg_Ikp {k2 : Nat} (hI : eg_Inv C T L R z kp lf up va st ne gl gm ek es en nt bV bS bN ac aN yl ym z) (hu : ¬ up = 0) (hk : k2 ≤ z) : eg_Inv C T L R z k2 lf up va st ne gl gm ek es en nt bV bS bN ac aN yl ym z := by
  obtain ⟨hCf, hWh, hA1, hA2, hA3, hB, hB2, hAc, hIm, hR, hRo, hMd⟩ := hI
  obtain ⟨c1, c2, t1, t2, l1, l2, r1, r2, k1, z1⟩ := hCf
  exact ⟨⟨c1, c2, t1, t2, l1, l2, r1, r2, hk, z1⟩, hWh, hA1, hA2, hA3, hB, hB2, hAc, hIm, hR, hRo, fun _ => rfl, fun q => absurd q hu⟩
theorem eg_Irs {t c : Nat} {nx p : Int32} {d : Nat → Int} (hI : eg_Inv C T L R z kp lf up va st ne gl gm ek es en nt bV bS bN ac aN yl ym z) (hu : ¬ up = 0) (ht : t < T) (hc : c < C) (hs1 : st t = 1) (hnx : nx = ne (t * 6 + c) + p)
    (hd : ∀ s, s < 6 → d s = if st s = 0 then 0 else if s = t then nx.toInt else (ne (s * 6 + c)).toInt) (hA : eg_All (va c).toInt d 0 L) :
    eg_Inv C T L R z kp lf up va st (upd ne (t * 6 + c) nx) gl gm ek es en nt bV bS bN ac (upd aN (t * 6 + c) (aN (t * 6 + c) + p)) yl ym z := by
  have hlst := eg_lst hI
  obtain ⟨hCf, hWh, hA1, hA2, hA3, hB, hB2, hAc, hIm, hR, hRo, hMd⟩ := hI
  have hCf' := hCf
  obtain ⟨c1, c2, t1, t2, l1, l2, r1, r2, k1, z1⟩ := hCf
  obtain ⟨i1, i2, i3⟩ := eg_Im0 hIm
  have ht6 : t < 6 := by omega
  have hc6 : c < 6 := by omega
  have ha : ¬ ac t = 0 := fun q => by
    rcases hlst.2.1 t ht6 q with e | e <;> rw [hs1] at e <;> exact absurd e (by decide)
  have en0 : ne (t * 6 + c) = aN (t * 6 + c) := by
    have e1 := i3 (t * 6 + c) (by omega) (by rw [(eg_dm hc6).2]; exact hc) (by rw [(eg_dm hc6).1, ← i2 t ht6, hs1]; decide)
    have e2 : eg_oN ac aN (eg_vN ek es nt bN z) (t * 6 + c) = aN (t * 6 + c) := if_neg (by rw [(eg_dm hc6).1]; exact ha)
    rw [e1, e2]
  have oN' : ∀ i, eg_oN ac (upd aN (t * 6 + c) (aN (t * 6 + c) + p)) (eg_vN ek es nt bN z) i = if i = t * 6 + c then nx else eg_oN ac aN (eg_vN ek es nt bN z) i := by
    intro i
    show (if ac (i / 6) = 0 then eg_vN ek es nt bN z i else upd aN (t * 6 + c) (aN (t * 6 + c) + p) i) = _
    by_cases e : i = t * 6 + c
    · rw [e, (eg_dm hc6).1, if_neg ha, pk_us, if_pos rfl, hnx, en0]
    · rw [pk_un e, if_neg e]; rfl
  refine ⟨hCf', hWh, hA1, hA2, hA3, ⟨hB.1, hB.2.1, fun i hi h6 hs => ?_⟩, hB2, hAc, eg_Im0m i1 i2 (fun i hi h6 hs => ?_), hR, fun c' hc' => ?_, hMd.1, fun q => absurd q hu⟩
  · rw [pk_un (by omega)]
    exact hB.2.2 i hi h6 hs
  · rw [oN']
    by_cases e : i = t * 6 + c
    · rw [if_pos e, e, pk_us]
    · rw [if_neg e, pk_un e]
      exact i3 i hi h6 hs
  · by_cases ec : c' = c
    · rw [ec, ← i1 c hc]
      refine eg_AllC (fun s hs => ?_) hA
      rw [hd s hs]
      unfold eg_d
      rw [oN', ← i2 s hs]
      by_cases h0 : st s = 0
      · rw [if_pos h0, if_pos h0]
      · rw [if_neg h0, if_neg h0, if_neg (eg_nm1 (by omega))]
        by_cases e : s = t
        · rw [if_pos e, if_pos (by omega)]
        · rw [if_neg e, if_neg (by omega)]
          have e1 := i3 (s * 6 + c) (by omega) (by rw [(eg_dm hc6).2]; exact hc) (by rw [(eg_dm hc6).1, ← i2 s hs]; exact h0)
          rw [e1]
    · refine eg_AllC (fun s hs => ?_) (hRo c' hc')
      unfold eg_d
      rw [oN', if_neg (show ¬ s * 6 + c' = t * 6 + c by omega)]
theorem eg_Iab {t : Nat} (hI : eg_Inv C T L R z kp lf up va st ne gl gm ek es en nt bV bS bN ac aN yl ym z) (hu : ¬ up = 0) (ht : t < T) (hs1 : st t = 1) : eg_Inv C T L R z kp lf up va (upd st t 0) ne gl gm ek es en nt bV bS bN (upd ac t 0) aN yl ym z := by
  have hlst := eg_lst hI
  obtain ⟨hCf, hWh, hA1, hA2, hA3, hB, hB2, hAc, hIm, hR, hRo, hMd⟩ := hI
  have hCf' := hCf
  obtain ⟨c1, c2, t1, t2, l1, l2, r1, r2, k1, z1⟩ := hCf
  obtain ⟨i1, i2, i3⟩ := eg_Im0 hIm
  have ht6 : t < 6 := by omega
  have ha : ¬ ac t = 0 := fun q => by
    rcases hlst.2.1 t ht6 q with e | e <;> rw [hs1] at e <;> exact absurd e (by decide)
  have hv0 := (hAc t ht6 ha).2
  have oS' : ∀ s, eg_oS (upd ac t 0) (eg_vS ek es bS z) s = if s = t then 0 else eg_oS ac (eg_vS ek es bS z) s := by
    intro s
    show (if upd ac t 0 s = 0 then eg_vS ek es bS z s else 1) = _
    by_cases e : s = t
    · rw [e, pk_us, if_pos rfl, if_pos rfl, hv0]
    · rw [pk_un e, if_neg e]; rfl
  have oN' : ∀ i, ¬ i / 6 = t → eg_oN (upd ac t 0) aN (eg_vN ek es nt bN z) i = eg_oN ac aN (eg_vN ek es nt bN z) i := by
    intro i e
    show (if upd ac t 0 (i / 6) = 0 then eg_vN ek es nt bN z i else aN i) = _
    rw [pk_un e]; rfl
  refine ⟨hCf', hWh, hA1, hA2, hA3, ⟨hB.1, fun s hs => ?_, hB.2.2⟩, hB2, fun s hs hn => ?_, eg_Im0m i1 (fun s hs => ?_) (fun i hi h6 hs => ?_), hR, fun c hc => ?_, hMd.1, fun q => absurd q hu⟩
  · rw [pk_un (by omega)]
    exact hB.2.1 s hs
  · by_cases e : s = t
    · rw [e, pk_us] at hn
      exact absurd rfl hn
    · rw [pk_un e] at hn
      exact hAc s hs hn
  · rw [oS']
    by_cases e : s = t
    · rw [e, pk_us, if_pos rfl]
    · rw [pk_un e, if_neg e, i2 s hs]
  · rw [oS'] at hs
    by_cases e : i / 6 = t
    · rw [if_pos e] at hs
      exact absurd rfl hs
    · rw [if_neg e] at hs
      rw [oN' i e]
      exact i3 i hi h6 hs
  · refine eg_AllS (fun s hs => ?_) (hRo c hc)
    unfold eg_d
    rw [oS']
    by_cases e : s = t
    · rw [if_pos e, if_pos rfl]
      exact Or.inr rfl
    · rw [if_neg e, oN' _ (by rw [(eg_dm (by omega)).1]; exact e)]
      exact Or.inl rfl
/-- a new event of t, applied to the live image -/
theorem eg_Iap {t : Nat} {kd : Int32} (hI : eg_Inv C T L R z kp lf up va st ne gl gm ek es en nt bV bS bN ac aN yl ym z) (hu : ¬ up = 0) (ht : t < T) (hs0 : ¬ st t = 0) (hz : z < R) (hN : ∀ c, c < C → ne (t * 6 + c) = nN (t * 6 + c)) (hN2 : ∀ c, c < 6 → nN (t * 6 + c) = eg_oN ac aN (eg_vN ek es nt bN z) (t * 6 + c)) :
    eg_Inv C T L R (z + 1) kp lf up (eg_aV C 0 z kd (eg_sg en (z * 6) C (fun c => ne (t * 6 + c))) va) (eg_aS 0 t kd st) (eg_aN C 0 z t kd (eg_sg en (z * 6) C (fun c => ne (t * 6 + c))) ne) gl gm (upd ek z kd) (upd es z (nI t)) (eg_sg en (z * 6) C (fun c => ne (t * 6 + c))) (eg_sg nt (z * 6) 6 (fun c => nN (t * 6 + c))) bV bS bN (upd ac t 0) aN yl ym (z + 1) := by
  obtain ⟨hCf, hWh, hA1, hA2, hA3, hB, hB2, hAc, hIm, hR, hRo, hMd⟩ := hI
  obtain ⟨c1, c2, t1, t2, l1, l2, r1, r2, k1, z1⟩ := hCf
  obtain ⟨i1, i2, i3⟩ := eg_Im0 hIm
  have ht6 : t < 6 := by omega
  have hA1' : eg_Ag C (eg_sg en (z * 6) C (fun c => ne (t * 6 + c))) (eg_sg nt (z * 6) 6 (fun c => nN (t * 6 + c))) := eg_AgS c2 hA1 hN
  have hrow : ∀ c, c < 6 → eg_sg nt (z * 6) 6 (fun c => nN (t * 6 + c)) (z * 6 + c) = eg_oN ac aN (eg_vN ek es nt bN z) (t * 6 + c) := fun c hc => by rw [eg_sgi hc, hN2 c hc]
  generalize hE : eg_sg en (z * 6) C (fun c => ne (t * 6 + c)) = en' at hA1' ⊢
  have hkd : ∀ e, e < z → upd ek z kd e = ek e := fun e he => pk_un (by omega)
  have hwh : ∀ e, e < z → upd es z (nI t) e = es e := fun e he => pk_un (by omega)
  have hnt : ∀ c, c < 6 → ∀ e, e < z → eg_sg nt (z * 6) 6 (fun c => nN (t * 6 + c)) (e * 6 + c) = nt (e * 6 + c) := fun c hc e he => eg_sgo (by omega)
  generalize hF : eg_sg nt (z * 6) 6 (fun c => nN (t * 6 + c)) = nt' at hA1' hrow hnt ⊢
  -- the old views
  have wV : ∀ j, j ≤ z → ∀ c, c < 6 → eg_vV (upd ek z kd) nt' bV j c = eg_vV ek nt bV j c := fun j hj c hc => eg_vVc j (fun e he => hkd e (by omega)) (fun e he => hnt c hc e (by omega)) rfl
  have wS : ∀ j, j ≤ z → ∀ s, eg_vS (upd ek z kd) (upd es z (nI t)) bS j s = eg_vS ek es bS j s := fun j hj s => eg_vSc j (fun e he => hkd e (by omega)) (fun e he => hwh e (by omega)) rfl
  have wN : ∀ j, j ≤ z → ∀ i, eg_vN (upd ek z kd) (upd es z (nI t)) nt' bN j i = eg_vN ek es nt bN j i := fun j hj i => eg_vNc j (fun e he => hkd e (by omega)) (fun e he => hwh e (by omega)) (fun e he => hnt (i % 6) (by omega) e (by omega)) rfl
  have ct : (upd es z (nI t) z).toNatClampNeg = t := by rw [pk_us]; exact nI_clamp (by omega)
  -- the new view
  have nV' : ∀ c, eg_vV (upd ek z kd) nt' bV (z + 1) c = if kd = 1 then eg_vV (upd ek z kd) nt' bV z c + nt' (z * 6 + c) else eg_vV (upd ek z kd) nt' bV z c := by
    intro c
    show (if upd ek z kd z = 1 then _ else _) = _
    rw [pk_us]
  have nS' : ∀ s, eg_vS (upd ek z kd) (upd es z (nI t)) bS (z + 1) s = if t = s then (if kd = 0 then 2 else 0) else eg_vS ek es bS z s := by
    intro s
    show (if (upd es z (nI t) z).toNatClampNeg = s then (if upd ek z kd z = 0 then 2 else 0) else eg_vS (upd ek z kd) (upd es z (nI t)) bS z s) = _
    rw [ct, pk_us, wS z (Nat.le_refl z)]
  have nN' : ∀ i, eg_vN (upd ek z kd) (upd es z (nI t)) nt' bN (z + 1) i = if kd = 0 ∧ t = i / 6 then nt' (z * 6 + i % 6) else eg_vN ek es nt bN z i := by
    intro i
    show (if upd ek z kd z = 0 ∧ (upd es z (nI t) z).toNatClampNeg = i / 6 then nt' (z * 6 + i % 6) else eg_vN (upd ek z kd) (upd es z (nI t)) nt' bN z i) = _
    rw [ct, pk_us, wN z (Nat.le_refl z)]
  have oS' : ∀ s, eg_oS (upd ac t 0) (eg_vS (upd ek z kd) (upd es z (nI t)) bS (z + 1)) s = if t = s then (if kd = 0 then 2 else 0) else eg_oS ac (eg_vS ek es bS z) s := by
    intro s
    show (if upd ac t 0 s = 0 then eg_vS (upd ek z kd) (upd es z (nI t)) bS (z + 1) s else 1) = _
    rw [nS']
    by_cases e : t = s
    · rw [if_pos e, if_pos e, ← e, pk_us, if_pos rfl]
    · rw [if_neg e, if_neg e, pk_un (fun q => e q.symm)]; rfl
  have oN' : ∀ i, eg_oN (upd ac t 0) aN (eg_vN (upd ek z kd) (upd es z (nI t)) nt' bN (z + 1)) i = if t = i / 6 then (if kd = 0 then nt' (z * 6 + i % 6) else eg_vN ek es nt bN z i) else eg_oN ac aN (eg_vN ek es nt bN z) i := by
    intro i
    show (if upd ac t 0 (i / 6) = 0 then eg_vN (upd ek z kd) (upd es z (nI t)) nt' bN (z + 1) i else aN i) = _
    rw [nN']
    by_cases e : t = i / 6
    · rw [if_pos e, ← e, pk_us, if_pos rfl]
      by_cases e0 : kd = 0
      · rw [if_pos e0, if_pos ⟨e0, rfl⟩]
      · rw [if_neg e0, if_neg (fun q => e0 q.1)]
    · rw [if_neg e, pk_un (fun q => e q.symm), if_neg (show ¬ (kd = 0 ∧ t = i / 6) from fun q => e q.2)]; rfl
  have hAc' : eg_Ac T (upd ac t 0) (eg_vS (upd ek z kd) (upd es z (nI t)) bS (z + 1)) := by
    intro s hs hn
    by_cases e : t = s
    · rw [← e, pk_us] at hn
      exact absurd rfl hn
    · rw [pk_un (fun q => e q.symm)] at hn
      rw [nS', if_neg e]
      exact hAc s hs hn
  -- the ranges
  have hRo' : eg_Rg C L (eg_vV (upd ek z kd) nt' bV (z + 1)) (eg_oS (upd ac t 0) (eg_vS (upd ek z kd) (upd es z (nI t)) bS (z + 1))) (eg_oN (upd ac t 0) aN (eg_vN (upd ek z kd) (upd es z (nI t)) nt' bN (z + 1))) := by
    intro c hc
    have hc6 : c < 6 := by omega
    have hA := hRo c hc
    have hs := i2 t ht6
    have hdt : eg_d (eg_oS ac (eg_vS ek es bS z)) (eg_oN ac aN (eg_vN ek es nt bN z)) c (-1) t = (eg_oN ac aN (eg_vN ek es nt bN z) (t * 6 + c)).toInt := by
      unfold eg_d
      rw [if_neg (by rw [← hs]; exact hs0), if_neg (eg_nm1 (by omega))]
    have hdn : ∀ s, s < 6 → eg_d (eg_oS (upd ac t 0) (eg_vS (upd ek z kd) (upd es z (nI t)) bS (z + 1))) (eg_oN (upd ac t 0) aN (eg_vN (upd ek z kd) (upd es z (nI t)) nt' bN (z + 1))) c (-1) s = if s = t then (if kd = 0 then eg_d (eg_oS ac (eg_vS ek es bS z)) (eg_oN ac aN (eg_vN ek es nt bN z)) c (-1) t else 0) else eg_d (eg_oS ac (eg_vS ek es bS z)) (eg_oN ac aN (eg_vN ek es nt bN z)) c (-1) s := by
      intro s hs6
      by_cases e : s = t
      · rw [if_pos e, hdt]
        unfold eg_d
        rw [oS', oN', (eg_dm hc6).1, (eg_dm hc6).2, if_pos e.symm, if_pos e.symm, if_neg (eg_nm1 (by omega)), hrow c hc6]
        by_cases e0 : kd = 0
        · rw [if_pos e0, if_pos e0, if_pos e0, if_neg (by decide)]
        · rw [if_neg e0, if_neg e0, if_neg e0, if_pos rfl]
      · rw [if_neg e]
        unfold eg_d
        rw [oS', oN', (eg_dm hc6).1, if_neg (show ¬ t = s from fun q => e q.symm), if_neg (show ¬ t = s from fun q => e q.symm)]
    rw [nV', wV z (Nat.le_refl z) c hc6]
    by_cases e1 : kd = 1
    · rw [if_pos e1]
      have hD := eg_AllD ht6 hA
      have hX := eg_AllX ht6 hA
      rw [hrow c hc6, eg_add (by omega) (by omega), ← hdt]
      refine eg_AllC (fun s hs6 => ?_) hX
      rw [hdn s hs6, if_neg (show ¬ kd = 0 by rw [e1]; decide)]
    · rw [if_neg e1]
      refine eg_AllS (fun s hs6 => ?_) hA
      rw [hdn s hs6]
      by_cases e : s = t
      · rw [if_pos e]
        by_cases e0 : kd = 0
        · rw [if_pos e0, e]; exact Or.inl rfl
        · rw [if_neg e0]; exact Or.inr rfl
      · rw [if_neg e]; exact Or.inl rfl
  have hIm1 : eg_Im C 0 va st ne (eg_vV (upd ek z kd) nt' bV z) (eg_oS ac (eg_vS (upd ek z kd) (upd es z (nI t)) bS z)) (eg_oN ac aN (eg_vN (upd ek z kd) (upd es z (nI t)) nt' bN z)) := by
    refine eg_ImC hIm (fun c hc => (wV z (Nat.le_refl z) c (by omega)).symm) (fun s hs => ?_) (fun i hi h6 h0 => ?_)
    · show (if ac s = 0 then _ else _) = (if ac s = 0 then _ else _)
      rw [wS z (Nat.le_refl z)]
    · show (if ac (i / 6) = 0 then _ else _) = (if ac (i / 6) = 0 then _ else _)
      rw [wN z (Nat.le_refl z)]
  have hIm2 := eg_ImS (e := z) (t := t) (ek := upd ek z kd) (es := upd es z (nI t)) (en := en') (nt := nt') c2 ht6 pk_us (fun c hc => hA1' (z * 6 + c) (by rw [(eg_dm (by omega)).2]; exact hc)) hIm1
  rw [pk_us] at hIm2
  refine ⟨⟨c1, c2, t1, t2, l1, l2, r1, r2, by omega, by omega⟩, fun e he => ?_, hA1', hA2, hA3, eg_ImF c2 ht6 (by omega) hB, hB2, hAc', eg_ImC hIm2 (fun c hc => rfl) (fun s hs => ?_) (fun i hi h6 h0 => ?_), fun j hj c hc => ?_, hRo', fun _ => rfl, fun q => absurd q hu⟩
  · by_cases e1 : e = z
    · exact ⟨t, ht, by rw [e1, pk_us]⟩
    · rw [pk_un e1]
      exact hWh e (by omega)
  · rw [oS']
    show (if (upd es z (nI t) z).toNatClampNeg = s then (if upd ek z kd z = 0 then 2 else 0) else (if ac s = 0 then eg_vS (upd ek z kd) (upd es z (nI t)) bS z s else 1)) = _
    rw [ct, pk_us, wS z (Nat.le_refl z)]
    rfl
  · have h0' : (if (upd es z (nI t) z).toNatClampNeg = i / 6 then (if upd ek z kd z = 0 then 2 else 0) else (if ac (i / 6) = 0 then eg_vS (upd ek z kd) (upd es z (nI t)) bS z (i / 6) else 1)) ≠ 0 := h0
    rw [ct, pk_us] at h0'
    rw [oN']
    show (if upd ek z kd z = 0 ∧ (upd es z (nI t) z).toNatClampNeg = i / 6 then nt' (z * 6 + i % 6) else (if ac (i / 6) = 0 then eg_vN (upd ek z kd) (upd es z (nI t)) nt' bN z i else aN i)) = _
    rw [ct, pk_us, wN z (Nat.le_refl z)]
    by_cases e : t = i / 6
    · rw [if_pos e] at h0'
      rw [if_pos e]
      by_cases e0 : kd = 0
      · rw [if_pos e0, if_pos ⟨e0, e⟩]
      · rw [if_neg e0] at h0'
        exact absurd rfl h0'
    · rw [if_neg e, if_neg (show ¬ (kd = 0 ∧ t = i / 6) from fun q => e q.2)]
      rfl
  · by_cases e1 : j = z + 1
    · rw [e1]
      exact eg_AllS (fun s hs => eg_do (fun q => (hAc' s hs q).2) (by omega)) (hRo' c hc)
    · rw [wV j (by omega) c (by omega)]
      refine eg_AllC (fun s hs => ?_) (hR j (by omega) c hc)
      unfold eg_d
      rw [wS j (by omega), wN j (by omega)]
end
end
section
/-! checkpoint, crash, recover -/
section
variable {C T L R z kp lf : Nat} {up : Int32} {va st ne gl gm ek es en : Nat → Int32} {nt bV bS bN ac aN yl ym nV nS nN : Nat → Int32}
theorem eg_oS0 {S : Nat → Int32} {t : Nat} (h : ac t = 0) : eg_oS ac S t = S t := if_pos h
theorem eg_oN0 {N : Nat → Int32} {i : Nat} (h : ac (i / 6) = 0) : eg_oN ac aN N i = N i := if_pos h
theorem eg_Ick {va' st' ne' : Nat → Int32} (hI : eg_Inv C T L R z kp lf up va st ne gl gm ek es en nt bV bS bN ac aN yl ym z) (hu : ¬ up = 0)
    (h1 : eg_Im C 1 va' st' ne' (eg_vV ek nt bV kp) (eg_vS ek es bS kp) (eg_vN ek es nt bN kp))
    (h0 : eg_Im C 0 va' st' ne' (eg_vV ek nt bV z) (eg_oS ac (eg_vS ek es bS z)) (eg_oN ac aN (eg_vN ek es nt bN z)))
    (hx : eg_Ex nV nS nN (eg_vV ek nt bV kp) (eg_vS ek es bS kp) (eg_vN ek es nt bN kp)) :
    eg_Inv C T L R (z - kp) 0 lf up va' st' ne' gl gm (eg_sg ek 0 (z - kp) (fun i => ek (i + kp))) (eg_sg es 0 (z - kp) (fun i => es (i + kp))) (eg_mv C kp en (z - kp)) (eg_mv 6 kp nt (z - kp)) (eg_sg bV 0 6 nV) (eg_sg bS 0 6 nS) (eg_sg bN 0 36 nN) ac aN yl ym (z - kp) := by
  obtain ⟨hCf, hWh, hA1, hA2, hA3, hB, hB2, hAc, hIm, hR, hRo, hMd⟩ := hI
  obtain ⟨c1, c2, t1, t2, l1, l2, r1, r2, k1, z1⟩ := hCf
  have bV' : ∀ c, c < 6 → eg_sg bV 0 6 nV c = eg_vV ek nt bV kp c := fun c hc => (eg_sgi0 hc).trans (hx.1 c hc)
  have bS' : ∀ c, c < 6 → eg_sg bS 0 6 nS c = eg_vS ek es bS kp c := fun c hc => (eg_sgi0 hc).trans (hx.2.1 c hc)
  have bN' : ∀ c, c < 36 → eg_sg bN 0 36 nN c = eg_vN ek es nt bN kp c := fun c hc => (eg_sgi0 hc).trans (hx.2.2 c hc)
  have ek' : ∀ e, e < z - kp → eg_sg ek 0 (z - kp) (fun i => ek (i + kp)) e = ek (e + kp) := fun e he => eg_sgi0 he
  have es' : ∀ e, e < z - kp → eg_sg es 0 (z - kp) (fun i => es (i + kp)) e = es (e + kp) := fun e he => eg_sgi0 he
  have nt' : ∀ c, c < 6 → ∀ e, e < z - kp → eg_mv 6 kp nt (z - kp) (e * 6 + c) = nt ((e + kp) * 6 + c) := by
    intro c hc e he
    show (if (e * 6 + c) / 6 < z - kp ∧ (e * 6 + c) % 6 < 6 then nt (e * 6 + c + kp * 6) else nt (e * 6 + c)) = _
    rw [if_pos (by omega), show e * 6 + c + kp * 6 = (e + kp) * 6 + c by omega]
  generalize eg_sg bV 0 6 nV = fV at bV' ⊢
  generalize eg_sg bS 0 6 nS = fS at bS' ⊢
  generalize eg_sg bN 0 36 nN = fN at bN' ⊢
  generalize eg_sg ek 0 (z - kp) (fun i => ek (i + kp)) = fk at ek' ⊢
  generalize eg_sg es 0 (z - kp) (fun i => es (i + kp)) = fs at es' ⊢
  have hA1' : eg_Ag C (eg_mv C kp en (z - kp)) (eg_mv 6 kp nt (z - kp)) := by
    intro i hi
    show (if i / 6 < z - kp ∧ i % 6 < C then en (i + kp * 6) else en i) = (if i / 6 < z - kp ∧ i % 6 < 6 then nt (i + kp * 6) else nt i)
    by_cases q : i / 6 < z - kp
    · rw [if_pos ⟨q, hi⟩, if_pos ⟨q, by omega⟩]
      exact hA1 _ (by omega)
    · rw [if_neg (fun w => q w.1), if_neg (fun w => q w.1)]
      exact hA1 i hi
  generalize eg_mv 6 kp nt (z - kp) = fn at nt' hA1' ⊢
  have wV : ∀ j, j ≤ z - kp → ∀ c, c < 6 → eg_vV fk fn fV j c = eg_vV ek nt bV (j + kp) c := fun j hj c hc => eg_vVh (bV' c hc) j (fun e he => ek' e (by omega)) (fun e he => nt' c hc e (by omega))
  have wS : ∀ j, j ≤ z - kp → ∀ s, s < 6 → eg_vS fk fs fS j s = eg_vS ek es bS (j + kp) s := fun j hj s hs => eg_vSh (bS' s hs) j (fun e he => ek' e (by omega)) (fun e he => es' e (by omega))
  have wN : ∀ j, j ≤ z - kp → ∀ i, i < 36 → eg_vN fk fs fn fN j i = eg_vN ek es nt bN (j + kp) i := fun j hj i hi => eg_vNh (bN' i hi) j (fun e he => ek' e (by omega)) (fun e he => es' e (by omega)) (fun e he => nt' (i % 6) (by omega) e (by omega))
  have ez : z - kp + kp = z := by omega
  have oS' : ∀ s, s < 6 → eg_oS ac (eg_vS ek es bS z) s = eg_oS ac (eg_vS fk fs fS (z - kp)) s := by
    intro s hs
    show (if ac s = 0 then _ else _) = (if ac s = 0 then _ else _)
    rw [wS (z - kp) (Nat.le_refl _) s hs, ez]
  have oN' : ∀ i, i < 36 → eg_oN ac aN (eg_vN ek es nt bN z) i = eg_oN ac aN (eg_vN fk fs fn fN (z - kp)) i := by
    intro i hi
    show (if ac (i / 6) = 0 then _ else _) = (if ac (i / 6) = 0 then _ else _)
    rw [wN (z - kp) (Nat.le_refl _) i hi, ez]
  refine ⟨⟨c1, c2, t1, t2, l1, l2, r1, r2, by omega, by omega⟩, fun e he => ?_, hA1', hA2, hA3, eg_ImC h1 (fun c hc => (bV' c (by omega)).symm) (fun s hs => (bS' s hs).symm) (fun i hi _ _ => (bN' i hi).symm), fun s hs => ?_, fun s hs hn => ?_, eg_ImC h0 (fun c hc => ?_) oS' (fun i hi _ _ => oN' i hi), fun j hj c hc => ?_, fun c hc => ?_, fun _ => rfl, fun q => absurd q hu⟩
  · rw [es' e he]
    exact hWh (e + kp) (by omega)
  · rw [bS' s hs]
    exact eg_vS2 (hB2 s hs) t2 kp (fun e he => hWh e (by omega))
  · rw [wS (z - kp) (Nat.le_refl _) s hs, ez]
    exact hAc s hs hn
  · rw [wV (z - kp) (Nat.le_refl _) c (by omega), ez]
  · rw [wV j hj c (by omega)]
    refine eg_AllC (fun s hs => ?_) (hR (j + kp) (by omega) c hc)
    unfold eg_d
    rw [wS j hj s hs, wN j hj _ (by omega)]
  · rw [wV (z - kp) (Nat.le_refl _) c (by omega), ez]
    refine eg_AllC (fun s hs => ?_) (hRo c hc)
    unfold eg_d
    rw [oS' s hs, oN' _ (by omega)]
theorem eg_Icr {m : Nat} (hI : eg_Inv C T L R z kp lf up va st ne gl gm ek es en nt bV bS bN ac aN yl ym m) :
    eg_Inv C T L R kp kp kp 0 (eg_sg va 0 6 (fun i => va (6 + i))) (eg_sg st 0 6 (fun i => st (6 + i))) (eg_sg ne 0 36 (fun i => ne (36 + i))) gl gm ek es en nt bV bS bN (eg_sg ac 0 6 (fun _ => 0)) aN yl ym 0 := by
  obtain ⟨hCf, hWh, hA1, hA2, hA3, hB, hB2, hAc, hIm, hR, hRo, hMd⟩ := hI
  obtain ⟨c1, c2, t1, t2, l1, l2, r1, r2, k1, z1⟩ := hCf
  have ac0 : ∀ t, t < 6 → eg_sg ac 0 6 (fun _ => 0) t = 0 := fun t ht => eg_sgi0 ht
  generalize eg_sg ac 0 6 (fun _ => 0) = fa at ac0 ⊢
  refine ⟨⟨c1, c2, t1, t2, l1, l2, r1, r2, Nat.le_refl _, by omega⟩, fun e he => hWh e (by omega), hA1, hA2, hA3, ⟨fun c hc => ?_, fun s hs => ?_, fun i hi h6 h0 => ?_⟩, hB2, fun s hs hn => absurd (ac0 s hs) hn, eg_Im0m (fun c hc => ?_) (fun s hs => ?_) (fun i hi h6 h0 => ?_), fun j hj => hR j (by omega), fun c hc => ?_, fun q => absurd rfl q, fun _ => ⟨by omega, rfl, ac0⟩⟩
  · rw [eg_sgo (by omega)]
    exact hB.1 c hc
  · rw [eg_sgo (by omega)]
    exact hB.2.1 s hs
  · rw [eg_sgo (by omega)]
    exact hB.2.2 i hi h6 h0
  · rw [eg_sgi0 (by omega)]
    exact hB.1 c hc
  · rw [eg_sgi0 hs, eg_oS0 (ac0 s hs)]
    exact hB.2.1 s hs
  · rw [eg_oS0 (ac0 _ (by omega))] at h0
    rw [eg_sgi0 hi, eg_oN0 (ac0 _ (by omega))]
    exact hB.2.2 i hi h6 h0
  · refine eg_AllC (fun s hs => ?_) (hR kp k1 c hc)
    unfold eg_d
    rw [eg_oS0 (ac0 s hs), eg_oN0 (ac0 _ (by omega))]
theorem eg_Irc {m k : Nat} {up' : Int32} {va' st' ne' : Nat → Int32} (hI : eg_Inv C T L R z kp lf up va st ne gl gm ek es en nt bV bS bN ac aN yl ym m) (hu : up = 0) (hk : k ≤ lf) (hu' : (¬ up' = 0 → lf = k))
    (h0 : eg_Im C 0 va' st' ne' (eg_vV ek nt bV (m + k)) (eg_vS ek es bS (m + k)) (eg_vN ek es nt bN (m + k))) (h1 : eg_Im C 1 va' st' ne' bV bS bN) :
    eg_Inv C T L R z kp (lf - k) up' va' st' ne' gl gm ek es en nt bV bS bN ac aN yl ym (m + k) := by
  obtain ⟨hCf, hWh, hA1, hA2, hA3, hB, hB2, hAc, hIm, hR, hRo, hMd⟩ := hI
  obtain ⟨m1, m2, m3⟩ := hMd.2 hu
  refine ⟨hCf, hWh, hA1, hA2, hA3, h1, hB2, hAc, eg_ImC h0 (fun c hc => rfl) (fun s hs => (eg_oS0 (m3 s hs)).symm) (fun i hi _ _ => (eg_oN0 (m3 _ (by omega))).symm), hR, hRo, fun q => ?_, fun q => ⟨by omega, m2, m3⟩⟩
  have := hu' q
  omega
end
end
section
/-! arguments -/
theorem eg_ix2 (p : Int32) {n : Nat} (hn : n < 2 ^ 31) : (p < 0 ∨ nI n ≤ p) ∨ ∃ j : Nat, j < n ∧ p = nI j := by
  rcases pk_ix p hn with h | h | h
  · exact Or.inl (Or.inl h)
  · exact Or.inl (Or.inr h)
  · exact Or.inr h
/-- a clamp: one answer for every continuation -/
def eg_Cp (p : Int32) (a n k : Nat) : Prop := ∀ F : Int32 → Prop, F (nI k) → ((nI a ≤ p → ((p ≤ nI n → F p) ∧ (¬ p ≤ nI n → F (nI n)))) ∧ (¬ nI a ≤ p → F (nI a)))
theorem eg_cp (p : Int32) {a n : Nat} (ha : a ≤ n) (hn : n < 2 ^ 31) : ∃ k, a ≤ k ∧ k ≤ n ∧ eg_Cp p a n k := by
  by_cases h : nI a ≤ p
  · have h0 : ¬ p < 0 := by
      rw [eg_lt0]
      rw [Int32.le_iff_toInt_le, nI_toInt (by omega)] at h
      omega
    obtain ⟨j, hj, rfl⟩ := nI_of h0
    rw [nI_leI (by omega) hj] at h
    by_cases h2 : j ≤ n
    · exact ⟨j, h, h2, fun F K => br_t (nI_le h hj) (br_t (nI_le h2 hn) K)⟩
    · exact ⟨n, ha, Nat.le_refl _, fun F K => br_t (nI_le h hj) (br_f (nI_ge (by omega) hj) K)⟩
  · exact ⟨a, Nat.le_refl _, ha, fun F K => br_f h K⟩
section
variable {C T L R z kp lf : Nat} {up : Int32} {va st ne gl gm ek es en : Nat → Int32}
theorem eg_xpb {post : Int32 → Prop} {p : Int32} (h : p < 0 ∨ nI T ≤ p) (K : post 0) : wpX_isPending post (0, 1, 2, 0, 1, 2, 0, 1, nI C, nI T, nI L, nI R, nI z, nI kp, up, nI lf, va, st, ne, gl, gm, ek, es, en) p := br_c (fun _ => K) (fun h1 => br_t (h.resolve_left h1) K)
theorem eg_xpg {post : Int32 → Prop} {t : Nat} (ht : t < T) (hT : T ≤ 6) (K0 : st t = 0 → post 0) (K1 : ¬ st t = 0 → post 1) : wpX_isPending post (0, 1, 2, 0, 1, 2, 0, 1, nI C, nI T, nI L, nI R, nI z, nI kp, up, nI lf, va, st, ne, gl, gm, ek, es, en) (nI t) := by
  have ct : (nI t).toNatClampNeg = t := nI_clamp (by omega)
  refine br_f (nI_pos (by omega)) (br_f (nI_ge ht (by omega)) ⟨vp_in_nI (by omega) (by omega), br_c (fun h => K0 ?_) (fun h => K1 ?_)⟩)
  · rw [ct] at h; exact h
  · rw [ct] at h; exact h
theorem eg_xcb {post : Int32 → Prop} {p : Int32} (h : p < 0 ∨ nI C ≤ p) (K : post 0) : wpX_isCounter post (0, 1, 2, 0, 1, 2, 0, 1, nI C, nI T, nI L, nI R, nI z, nI kp, up, nI lf, va, st, ne, gl, gm, ek, es, en) p := br_c (fun _ => K) (fun h1 => br_t (h.resolve_left h1) K)
theorem eg_xcg {post : Int32 → Prop} {c : Nat} (hc : c < C) (hC : C ≤ 6) (K : post 1) : wpX_isCounter post (0, 1, 2, 0, 1, 2, 0, 1, nI C, nI T, nI L, nI R, nI z, nI kp, up, nI lf, va, st, ne, gl, gm, ek, es, en) (nI c) := br_f (nI_pos (by omega)) (br_f (nI_ge hc (by omega)) K)
theorem eg_xsb {post : Int32 → Prop} {p : Int32} (h : p < 0 ∨ nI T ≤ p) (K : post 0) : wpX_isSlot post (0, 1, 2, 0, 1, 2, 0, 1, nI C, nI T, nI L, nI R, nI z, nI kp, up, nI lf, va, st, ne, gl, gm, ek, es, en) p := br_c (fun _ => K) (fun h1 => br_t (h.resolve_left h1) K)
theorem eg_xsg {post : Int32 → Prop} {t : Nat} (ht : t < T) (hT : T ≤ 6) (K : post 1) : wpX_isSlot post (0, 1, 2, 0, 1, 2, 0, 1, nI C, nI T, nI L, nI R, nI z, nI kp, up, nI lf, va, st, ne, gl, gm, ek, es, en) (nI t) := br_f (nI_pos (by omega)) (br_f (nI_ge ht (by omega)) K)
theorem eg_xclp {F : Int32 → Prop} {p : Int32} {a n k : Nat} (h : eg_Cp p a n k) (K : F (nI k)) : wpX_clamp F (0, 1, 2, 0, 1, 2, 0, 1, nI C, nI T, nI L, nI R, nI z, nI kp, up, nI lf, va, st, ne, gl, gm, ek, es, en) p (nI a) (nI n) := h F K
theorem eg_xwb0 {post : Int32 → SX → Prop} {p : Int32} (h : p < 0 ∨ nI C ≤ p) (K : post 1002 (0, 1, 2, 0, 1, 2, 0, 1, nI C, nI T, nI L, nI R, nI z, nI kp, up, nI lf, va, st, ne, gl, gm, ek, es, en)) : wpX_writeBack post (0, 1, 2, 0, 1, 2, 0, 1, nI C, nI T, nI L, nI R, nI z, nI kp, up, nI lf, va, st, ne, gl, gm, ek, es, en) p := by
  unfold wpX_writeBack
  exact eg_xcb h (br_t rfl K)
theorem eg_xwb1 {post : Int32 → SX → Prop} {c : Nat} (hc : c < C) (hC : C ≤ 6) (K0 : up = 0 → post 0 (0, 1, 2, 0, 1, 2, 0, 1, nI C, nI T, nI L, nI R, nI z, nI kp, up, nI lf, va, st, ne, gl, gm, ek, es, en)) (K1 : ¬ up = 0 → ∃ n, wX_writeBack_31 post (nI c) 0 1 2 0 1 2 0 1 (nI C) (nI T) (nI L) (nI R) (nI z) (nI kp) up (nI lf) va st ne gl gm ek es en n (nI kp) (nI kp)) : wpX_writeBack post (0, 1, 2, 0, 1, 2, 0, 1, nI C, nI T, nI L, nI R, nI z, nI kp, up, nI lf, va, st, ne, gl, gm, ek, es, en) (nI c) := by
  unfold wpX_writeBack
  exact eg_xcg hc hC (br_f (by decide) (br_c K0 K1))
end
section
variable {C T L R z kp lf : Nat} {up : Int32} {ek es nt bV bS bN ac aN yl ym nV nS nN : Nat → Int32}
theorem eg_ycb {post : Int32 → Prop} {p : Int32} (h : p < 0 ∨ nI C ≤ p) (K : post 1) : wpY_noCounter post (nI C, nI T, nI L, nI R, up, nI lf, nI z, nI kp, ek, es, nt, bV, bS, bN, ac, aN, yl, ym, nV, nS, nN) p := br_c (fun _ => K) (fun h1 => br_f (Int32.not_lt.mpr (h.resolve_left h1)) K)
theorem eg_ycg {post : Int32 → Prop} {c : Nat} (hc : c < C) (hC : C ≤ 6) (K : post 0) : wpY_noCounter post (nI C, nI T, nI L, nI R, up, nI lf, nI z, nI kp, ek, es, nt, bV, bS, bN, ac, aN, yl, ym, nV, nS, nN) (nI c) := br_f (nI_pos (by omega)) (br_t (nI_lt hc (by omega)) K)
theorem eg_ywb0 {post : Int32 → SY → Prop} {p : Int32} (h : p < 0 ∨ nI C ≤ p) (K : post 1002 (nI C, nI T, nI L, nI R, up, nI lf, nI z, nI kp, ek, es, nt, bV, bS, bN, ac, aN, yl, ym, nV, nS, nN)) : wpY_writeBack post (nI C, nI T, nI L, nI R, up, nI lf, nI z, nI kp, ek, es, nt, bV, bS, bN, ac, aN, yl, ym, nV, nS, nN) p := by
  unfold wpY_writeBack
  exact eg_ycb h (br_f (by decide) K)
theorem eg_ywb1 {post : Int32 → SY → Prop} {c : Nat} (hc : c < C) (hC : C ≤ 6) (K0 : up = 0 → post 0 (nI C, nI T, nI L, nI R, up, nI lf, nI z, nI kp, ek, es, nt, bV, bS, bN, ac, aN, yl, ym, nV, nS, nN)) (K1 : ¬ up = 0 → ∃ n, wY_writeBack_31 post (nI c) (nI C) (nI T) (nI L) (nI R) up (nI lf) (nI z) (nI kp) ek es nt bV bS bN ac aN yl ym nV nS nN n (nI kp) (nI kp)) : wpY_writeBack post (nI C, nI T, nI L, nI R, up, nI lf, nI z, nI kp, ek, es, nt, bV, bS, bN, ac, aN, yl, ym, nV, nS, nN) (nI c) := by
  unfold wpY_writeBack
  exact eg_ycg hc hC (br_t rfl (br_c K0 K1))
theorem eg_ysb {post : Int32 → Prop} {p : Int32} (hT : T ≤ 6) (h : p < 0 ∨ nI T ≤ p) (K : post 1) : wpY_noSlot post (nI C, nI T, nI L, nI R, up, nI lf, nI z, nI kp, ek, es, nt, bV, bS, bN, ac, aN, yl, ym, nV, nS, nN) p := br_c (fun _ => K) (fun h1 => br_f (Int32.not_lt.mpr (h.resolve_left h1)) K)
theorem eg_ysg {post : Int32 → Prop} {t : Nat} (ht : t < T) (hT : T ≤ 6) (K : post 0) : wpY_noSlot post (nI C, nI T, nI L, nI R, up, nI lf, nI z, nI kp, ek, es, nt, bV, bS, bN, ac, aN, yl, ym, nV, nS, nN) (nI t) := br_f (nI_pos (by omega)) (br_t (nI_lt ht (by omega)) K)
end
end
section
/-! logged, bound, flush, writeBack, crash, recover, checkpoint, begin -/
theorem i_vc_logged {k : Nat} {u : SX} {v : SY} (I : i_Rel k u v) (hk : k + 5 ≤ 2564) (v1 : Int32) : wpX_logged (fun r => wpY_logged (fun r' => r' = r ∧ i_Rel (k + 5) u v) v v1) u v1 := by
  refine eg_el (P := fun u v => wpX_logged (fun r => wpY_logged (fun r' => r' = r ∧ i_Rel (k + 5) u v) v v1) u v1) ?_ I
  intro C T L R z kp lf m up va st ne gl gm ek es en nt bV bS bN ac aN yl ym nV nS nN hI
  exact br_c (fun h => br_t h ⟨rfl, eg_ii hI⟩) (fun h => br_c (fun h1 => br_f h (br_t h1 ⟨rfl, eg_ii hI⟩)) (fun h1 => br_c (fun h2 => br_f h (br_f h1 (br_t h2 ⟨rfl, eg_ii hI⟩))) (fun h2 => br_f h (br_f h1 (br_f h2 ⟨rfl, eg_ii hI⟩)))))
def eg_bv (ac gl gm : Nat → Int32) (t c : Nat) (w : Int32) : Int32 := if ac t = 0 then 1005 else if w = 0 then gl (t * 6 + c) else gm (t * 6 + c)
section
variable {C T L R z kp lf : Nat} {up : Int32} {va st ne gl gm ek es en : Nat → Int32} {nt bV bS bN ac aN yl ym nV nS nN : Nat → Int32}
theorem eg_xb40 {post : Int32 → Prop} {t c : Nat} {w : Int32} (ht : t < 6) (hc : c < 6) (h1 : ac t = 0 → ¬ st t = 1) (h2 : ¬ ac t = 0 → st t = 1) (K : post (eg_bv ac gl gm t c w)) : wX_bound_40 post (nI t) (nI c) w 0 1 2 0 1 2 0 1 (nI C) (nI T) (nI L) (nI R) (nI z) (nI kp) up (nI lf) va st ne gl gm ek es en := by
  have ct : (nI t).toNatClampNeg = t := nI_clamp (by omega)
  have v36 : vp_in (nI t * 6 + nI c) 36 := eg_in (by omega) (by omega)
  have cc := eg_cl (t := t) (c := c) (by omega)
  unfold eg_bv at K
  refine ⟨vp_in_nI (by omega) (by omega), ?_⟩
  by_cases ha : ac t = 0
  · rw [if_pos ha] at K
    exact br_f (by rw [ct]; exact h1 ha) K
  · rw [if_neg ha] at K
    refine br_t (by rw [ct]; exact h2 ha) (br_c (fun h0 => ⟨v36, ?_⟩) (fun h0 => ⟨v36, ?_⟩))
    · rw [if_pos h0] at K
      rw [cc]; exact K
    · rw [if_neg h0] at K
      rw [cc]; exact K
theorem eg_yb40 {post : Int32 → Prop} {t c : Nat} {w : Int32} (ht : t < 6) (hc : c < 6) (K : post (eg_bv ac yl ym t c w)) : wY_bound_40 post (nI t) (nI c) w (nI C) (nI T) (nI L) (nI R) up (nI lf) (nI z) (nI kp) ek es nt bV bS bN ac aN yl ym nV nS nN := by
  have ct : (nI t).toNatClampNeg = t := nI_clamp (by omega)
  have v36 : vp_in (nI t * 6 + nI c) 36 := eg_in (by omega) (by omega)
  have cc := eg_cl (t := t) (c := c) (by omega)
  unfold eg_bv at K
  refine ⟨vp_in_nI (by omega) (by omega), ?_⟩
  by_cases ha : ac t = 0
  · rw [if_pos ha] at K
    exact br_t (by rw [ct]; exact ha) K
  · rw [if_neg ha] at K
    refine br_f (by rw [ct]; exact ha) (br_c (fun h0 => ⟨v36, ?_⟩) (fun h0 => ⟨v36, ?_⟩))
    · rw [if_pos h0] at K
      rw [cc]; exact K
    · rw [if_neg h0] at K
      rw [cc]; exact K
end
theorem i_vc_bound {k : Nat} {u : SX} {v : SY} (I : i_Rel k u v) (hk : k + 5 ≤ 2564) (v1 : Int32) (v2 : Int32) (v3 : Int32) : wpX_bound (fun r => wpY_bound (fun r' => r' = r ∧ i_Rel (k + 5) u v) v v1 v2 v3) u v1 v2 v3 := by
  refine eg_el (P := fun u v => wpX_bound (fun r => wpY_bound (fun r' => r' = r ∧ i_Rel (k + 5) u v) v v1 v2 v3) u v1 v2 v3) ?_ I
  intro C T L R z kp lf m up va st ne gl gm ek es en nt bV bS bN ac aN yl ym nV nS nN hI
  have hG := hI.2.2.2.1
  have hH := hI.2.2.2.2.1
  have hM := hI.2.2.2.2.2.2.2.2.2.2.2
  obtain ⟨c1, c2, t1, t2, l1, l2, r1, r2, k1, z1⟩ := hI.1
  refine br_c (fun h => br_t h ⟨rfl, eg_ii hI⟩) (fun hu => ?_)
  obtain rfl : m = z := hM.1 hu
  have hl := eg_lst hI
  rcases eg_ix2 v1 (n := T) (by omega) with ht | ⟨t, ht, rfl⟩
  · exact eg_xsb ht (br_t rfl (br_f hu (eg_ysb t2 ht (br_f (by decide) ⟨rfl, eg_ii hI⟩))))
  refine eg_xsg ht t2 (br_f (by decide) ?_)
  rcases eg_ix2 v2 (n := C) (by omega) with hc | ⟨c, hc, rfl⟩
  · exact eg_xcb hc (br_t rfl (br_f hu (eg_ysg ht t2 (br_t rfl (eg_ycb hc (br_f (by decide) ⟨rfl, eg_ii hI⟩))))))
  refine eg_xcg hc c2 (br_f (by decide) ?_)
  have eG := hG (t * 6 + c) (by rw [(eg_dm (by omega)).2]; exact hc)
  have eH := hH (t * 6 + c) (by rw [(eg_dm (by omega)).2]; exact hc)
  have eB : eg_bv ac yl ym t c v3 = eg_bv ac gl gm t c v3 := by
    unfold eg_bv
    rw [eG, eH]
  have h1 : ac t = 0 → ¬ st t = 1 := fun ha => by
    rcases hl.2.1 t (by omega) ha with e | e <;> rw [e] <;> decide
  have h2 := hl.2.2 t (by omega)
  refine br_c (fun h0 => ?_) (fun h0 => br_c (fun h3 => ?_) (fun h3 => ?_))
  · exact eg_xb40 (ac := ac) (by omega) (by omega) h1 h2 (br_f hu (eg_ysg ht t2 (br_t rfl (eg_ycg hc c2 (br_t rfl (br_t h0 (eg_yb40 (by omega) (by omega) ⟨eB, eg_ii hI⟩)))))))
  · exact eg_xb40 (ac := ac) (by omega) (by omega) h1 h2 (br_f hu (eg_ysg ht t2 (br_t rfl (eg_ycg hc c2 (br_t rfl (br_f h0 (br_t h3 (eg_yb40 (by omega) (by omega) ⟨eB, eg_ii hI⟩))))))))
  · exact br_f hu (eg_ysg ht t2 (br_t rfl (eg_ycg hc c2 (br_t rfl (br_f h0 (br_f h3 ⟨rfl, eg_ii hI⟩))))))
theorem i_vc_flush {k : Nat} {u : SX} {v : SY} (I : i_Rel k u v) (hk : k + 5 ≤ 2564) (v1 : Int32) : wpX_flush (fun r u' => wpY_flush (fun r' v' => r' = r ∧ i_Rel (k + 5) u' v') v v1) u v1 := by
  refine eg_el (P := fun u v => wpX_flush (fun r u' => wpY_flush (fun r' v' => r' = r ∧ i_Rel (k + 5) u' v') v v1) u v1) ?_ I
  intro C T L R z kp lf m up va st ne gl gm ek es en nt bV bS bN ac aN yl ym nV nS nN hI
  have hM := hI.2.2.2.2.2.2.2.2.2.2.2
  obtain ⟨c1, c2, t1, t2, l1, l2, r1, r2, k1, z1⟩ := hI.1
  refine br_c (fun h => br_t h ⟨rfl, eg_ii hI⟩) (fun hu => ?_)
  obtain rfl : m = z := hM.1 hu
  obtain ⟨q, q1, q2, hq⟩ := eg_cp v1 (a := 0) (n := m - kp) (by omega) (by omega)
  rw [pk_sub k1]
  refine eg_xclp (a := 0) hq (nm_r (nI_add kp q) (br_f hu ?_))
  rw [pk_sub k1]
  exact hq (fun w => wY_flush_45 (fun r' v' => r' = nI q ∧ i_Rel (k + 5) (0, 1, 2, 0, 1, 2, 0, 1, nI C, nI T, nI L, nI R, nI m, nI (kp + q), up, nI lf, va, st, ne, gl, gm, ek, es, en) v') w (nI C) (nI T) (nI L) (nI R) up (nI lf) (nI m) (nI kp) ek es nt bV bS bN ac aN yl ym nV nS nN) (nm_r (nI_add kp q) ⟨rfl, eg_ii (eg_Ikp hI hu (by omega))⟩)
theorem i_vc_writeBack {k : Nat} {u : SX} {v : SY} (I : i_Rel k u v) (hk : k + 5 ≤ 2564) (v1 : Int32) : wpX_writeBack (fun r u' => wpY_writeBack (fun r' v' => r' = r ∧ i_Rel (k + 5) u' v') v v1) u v1 := by
  refine eg_el (P := fun u v => wpX_writeBack (fun r u' => wpY_writeBack (fun r' v' => r' = r ∧ i_Rel (k + 5) u' v') v v1) u v1) ?_ I
  intro C T L R z kp lf m up va st ne gl gm ek es en nt bV bS bN ac aN yl ym nV nS nN hI
  have hM := hI.2.2.2.2.2.2.2.2.2.2.2
  obtain ⟨c1, c2, t1, t2, l1, l2, r1, r2, k1, z1⟩ := hI.1
  rcases eg_ix2 v1 (n := C) (by omega) with hc | ⟨c, hc, rfl⟩
  · exact eg_xwb0 hc (eg_ywb0 hc ⟨rfl, eg_ii hI⟩)
  refine eg_xwb1 hc c2 (fun h => eg_ywb1 hc c2 (fun _ => ⟨rfl, eg_ii hI⟩) (fun w => absurd h w)) (fun hu => ?_)
  obtain rfl : m = z := hM.1 hu
  have hA := hI.2.2.1
  obtain ⟨F, f1, f2, fX, fY⟩ := eg_wb (L := L) (R := R) (T := T) (C := C) (lf := lf) (up := up) (va := va) (st := st) (ne := ne) (gl := gl) (gm := gm) (ek := ek) (es := es) (bV := bV) (bS := bS) (bN := bN) (ac := ac) (aN := aN) (yl := yl) (ym := ym) (nV := nV) (nS := nS) (nN := nN) (z := m) (kp := kp) (c := c) (en := en) (nt := nt) (by omega) k1 (by omega) (fun e he => hA _ (by rw [(eg_dm (by omega)).2]; exact hc)) (m - kp) kp kp (by omega) (Nat.le_refl _) (Nat.le_refl _)
  exact ⟨_, fX _ (eg_ywb1 hc c2 (fun w => absurd w hu) (fun _ => ⟨_, fY _ ⟨rfl, eg_ii (eg_Ikp hI hu f2)⟩⟩))⟩
theorem i_vc_crash {k : Nat} {u : SX} {v : SY} (I : i_Rel k u v) (hk : k + 5 ≤ 2564) : wpX_crash (fun r u' => wpY_crash (fun r' v' => r' = r ∧ i_Rel (k + 5) u' v') v) u := by
  refine eg_el (P := fun u v => wpX_crash (fun r u' => wpY_crash (fun r' v' => r' = r ∧ i_Rel (k + 5) u' v') v) u) ?_ I
  intro C T L R z kp lf m up va st ne gl gm ek es en nt bV bS bN ac aN yl ym nV nS nN hI
  have H := eg_ycr (post := fun r' v' => r' = nI kp ∧ i_Rel (k + 5) (0, 1, 2, 0, 1, 2, 0, 1, nI C, nI T, nI L, nI R, nI kp, nI kp, 0, nI kp, eg_sg va 0 6 (fun i => va (6 + i)), eg_sg st 0 6 (fun i => st (6 + i)), eg_sg ne 0 36 (fun i => ne (36 + i)), gl, gm, ek, es, en) v') (C := C) (T := T) (L := L) (R := R) (z := kp) (kp := kp) (lf := lf) (up := up) (ek := ek) (es := es) (nt := nt) (bV := bV) (bS := bS) (bN := bN) (ac := ac) (aN := aN) (yl := yl) (ym := ym) (nV := nV) (nS := nS) (nN := nN) ⟨rfl, eg_ii (eg_Icr hI)⟩ 6 0 rfl
  rw [eg_sg0] at H
  exact eg_xlb ⟨7, H⟩
theorem i_vc_recover {k : Nat} {u : SX} {v : SY} (I : i_Rel k u v) (hk : k + 5 ≤ 2564) (v1 : Int32) : wpX_recover (fun r u' => wpY_recover (fun r' v' => r' = r ∧ i_Rel (k + 5) u' v') v v1) u v1 := by
  refine eg_el (P := fun u v => wpX_recover (fun r u' => wpY_recover (fun r' v' => r' = r ∧ i_Rel (k + 5) u' v') v v1) u v1) ?_ I
  intro C T L R z kp lf m up va st ne gl gm ek es en nt bV bS bN ac aN yl ym nV nS nN hI
  have hM := hI.2.2.2.2.2.2.2.2.2.2.2
  have hWh := hI.2.1
  have hA := hI.2.2.1
  have hB := hI.2.2.2.2.2.1
  have hIm := hI.2.2.2.2.2.2.2.2.1
  obtain ⟨c1, c2, t1, t2, l1, l2, r1, r2, k1, z1⟩ := hI.1
  refine br_c (fun hu => ?_) (fun hu => br_f hu ⟨rfl, eg_ii hI⟩)
  obtain ⟨m1, m2, m3⟩ := hM.2 hu
  obtain ⟨q, q1, q2, hq⟩ := eg_cp v1 (a := 0) (n := lf) (by omega) (by omega)
  refine eg_xclp (a := 0) hq (nm_r (e' := nI m) (by rw [pk_sub (by omega)]; exact congrArg nI (by omega)) ⟨q + 1, ?_⟩)
  have hw : ∀ e, e < m + q → es e = nI (es e).toNatClampNeg ∧ (es e).toNatClampNeg < 6 := fun e he => by
    obtain ⟨t, ht, et⟩ := hWh e (by omega)
    have : (es e).toNatClampNeg = t := by rw [et]; exact nI_clamp (by omega)
    rw [this]
    exact ⟨et, by omega⟩
  refine eg_xr33 (P := fun e va st ne => eg_Im C 0 va st ne (eg_vV ek nt bV e) (eg_vS ek es bS e) (eg_vN ek es nt bN e) ∧ eg_Im C 1 va st ne bV bS bN) (w := fun e => (es e).toNatClampNeg) (n0 := m) (k := q) (by omega) c2 hw q2 (by omega) (fun e va st ne he hP => ?_) (fun va st ne hP => ?_) q 0 va st ne (by omega) ?_
  · have hwe := hw e he
    exact ⟨eg_ImS c2 hwe.2 hwe.1 (fun c hc => hA _ (by rw [(eg_dm (by omega)).2]; exact hc)) hP.1, eg_ImF c2 hwe.2 (by omega) hP.2⟩
  · refine ⟨fun e => ?_, fun e => ?_⟩
    · have hJ := eg_Irc (up' := 1) hI hu q2 (fun _ => by omega) hP.1 hP.2
      rw [e] at hJ
      refine br_t hu ?_
      refine hq (fun w => wY_recover_38 (fun r' v' => r' = 0 ∧ i_Rel (k + 5) (0, 1, 2, 0, 1, 2, 0, 1, nI C, nI T, nI L, nI R, nI z, nI kp, 1, 0, va, st, ne, gl, gm, ek, es, en) v') w (nI lf) (nI C) (nI T) (nI L) (nI R) up (nI lf) (nI z) (nI kp) ek es nt bV bS bN ac aN yl ym nV nS nN) ?_
      refine nm_r (e' := nI 0) (by rw [pk_sub q2, e]) (br_t rfl ⟨rfl, eg_ii (lf := 0) hJ⟩)
    · have hJ := eg_Irc (up' := up) hI hu q2 (fun w => absurd hu w) hP.1 hP.2
      refine br_t hu ?_
      refine hq (fun w => wY_recover_38 (fun r' v' => r' = nI (lf - q) ∧ i_Rel (k + 5) (0, 1, 2, 0, 1, 2, 0, 1, nI C, nI T, nI L, nI R, nI z, nI kp, up, nI (lf - q), va, st, ne, gl, gm, ek, es, en) v') w (nI lf) (nI C) (nI T) (nI L) (nI R) up (nI lf) (nI z) (nI kp) ek es nt bV bS bN ac aN yl ym nV nS nN) ?_
      exact nm_r (pk_sub q2) (br_f (nI_ne0 (by omega) (by omega)) ⟨rfl, eg_ii hJ⟩)
  · refine ⟨eg_ImC hIm (fun c hc => rfl) (fun s hs => eg_oS0 (m3 s hs)) (fun i hi _ _ => eg_oN0 (m3 _ (by omega))), hB⟩
theorem i_vc_checkpoint {k : Nat} {u : SX} {v : SY} (I : i_Rel k u v) (hk : k + 5 ≤ 2564) : wpX_checkpoint (fun r u' => wpY_checkpoint (fun r' v' => r' = r ∧ i_Rel (k + 5) u' v') v) u := by
  refine eg_el (P := fun u v => wpX_checkpoint (fun r u' => wpY_checkpoint (fun r' v' => r' = r ∧ i_Rel (k + 5) u' v') v) u) ?_ I
  intro C T L R z kp lf m up va st ne gl gm ek es en nt bV bS bN ac aN yl ym nV nS nN hI
  have hM := hI.2.2.2.2.2.2.2.2.2.2.2
  have hWh := hI.2.1
  have hA := hI.2.2.1
  have hB := hI.2.2.2.2.2.1
  have hIm := hI.2.2.2.2.2.2.2.2.1
  obtain ⟨c1, c2, t1, t2, l1, l2, r1, r2, k1, z1⟩ := hI.1
  refine br_c (fun h => br_t h ⟨rfl, eg_ii hI⟩) (fun hu => ⟨kp + 1, ?_⟩)
  obtain rfl : m = z := hM.1 hu
  have hw : ∀ e, e < kp → es e = nI (es e).toNatClampNeg ∧ (es e).toNatClampNeg < 6 := fun e he => by
    obtain ⟨t, ht, et⟩ := hWh e (by omega)
    have : (es e).toNatClampNeg = t := by rw [et]; exact nI_clamp (by omega)
    rw [this]
    exact ⟨et, by omega⟩
  refine eg_xc18 (P := fun e va st ne => eg_Im C 1 va st ne (eg_vV ek nt bV e) (eg_vS ek es bS e) (eg_vN ek es nt bN e) ∧ eg_Im C 0 va st ne (eg_vV ek nt bV m) (eg_oS ac (eg_vS ek es bS m)) (eg_oN ac aN (eg_vN ek es nt bN m))) (w := fun e => (es e).toNatClampNeg) (by omega) c2 hw (fun e va st ne he hP => ?_) (fun va' st' ne' hP => ⟨m - kp + 1, ?_⟩) kp 0 va st ne (by omega) ⟨hB, hIm⟩
  · have hwe := hw e he
    exact ⟨eg_ImS c2 hwe.2 hwe.1 (fun c hc => hA _ (by rw [(eg_dm (by omega)).2]; exact hc)) hP.1, eg_ImF c2 hwe.2 (by omega) hP.2⟩
  · have H := eg_xc37 (post := fun r u' => wpY_checkpoint (fun r' v' => r' = r ∧ i_Rel (k + 5) u' v') (nI C, nI T, nI L, nI R, up, nI lf, nI m, nI kp, ek, es, nt, bV, bS, bN, ac, aN, yl, ym, nV, nS, nN)) (C := C) (T := T) (L := L) (R := R) (z := m) (kp := kp) (lf := lf) (up := up) (va := va') (st := st') (ne := ne') (gl := gl) (gm := gm) (ek := ek) (es := es) (en := en) (by omega) k1 c2 (br_f hu (eg_yldK (by omega) k1 (eg_w6 hI) (fun nV nS nN hx => eg_yck (by omega) k1 ⟨rfl, eg_ii (kp := 0) (eg_Ick hI hu hP.1 hP.2 hx)⟩))) (m - kp) 0 (by omega)
    rw [eg_sg0, eg_sg0, eg_mv0, Nat.zero_add] at H
    exact H
theorem i_vc_begin {k : Nat} {u : SX} {v : SY} (I : i_Rel k u v) (hk : k + 5 ≤ 2564) : wpX_begin (fun r u' => wpY_begin (fun r' v' => r' = r ∧ i_Rel (k + 5) u' v') v) u := by
  refine eg_el (P := fun u v => wpX_begin (fun r u' => wpY_begin (fun r' v' => r' = r ∧ i_Rel (k + 5) u' v') v) u) ?_ I
  intro C T L R z kp lf m up va st ne gl gm ek es en nt bV bS bN ac aN yl ym nV nS nN hI
  have hM := hI.2.2.2.2.2.2.2.2.2.2.2
  obtain ⟨c1, c2, t1, t2, l1, l2, r1, r2, k1, z1⟩ := hI.1
  refine br_c (fun h => br_t h ⟨rfl, eg_ii hI⟩) (fun hu => ?_)
  obtain rfl : m = z := hM.1 hu
  rcases Classical.em (∃ t, t < T ∧ st t = 0) with h | h
  · obtain ⟨t, ⟨ht, h0⟩, hl⟩ := pk_least _ h
    have hn : ∀ s, s < t → ¬ st s = 0 := fun s hs q => hl s hs ⟨by omega, q⟩
    refine ⟨t + 1, eg_xbg1 ht t2 c2 h0 hn ?_ t 0 (by omega)⟩
    refine br_f hu (eg_yldL (by omega) (eg_w6 hI) (fun nV nS nN hx => ⟨t + 1, ?_⟩))
    have hL := eg_lv hI hx
    exact eg_ybg1 ht t2 (by rw [← hL.2.1 t (by omega)]; exact h0) (fun s hs => by rw [← hL.2.1 s (by omega)]; exact hn s hs) ⟨rfl, eg_ii (eg_Ibg hI hu ht h0)⟩ t 0 (by omega)
  · have hn : ∀ s, s < T → ¬ st s = 0 := fun s hs q => h ⟨s, hs, q⟩
    refine ⟨T + 1, eg_xbg0 t2 hn ?_ T 0 (by omega)⟩
    refine br_f hu (eg_yldL (by omega) (eg_w6 hI) (fun nV nS nN hx => ⟨T + 1, ?_⟩))
    have hL := eg_lv hI hx
    exact eg_ybg0 t2 (fun s hs => by rw [← hL.2.1 s (by omega)]; exact hn s hs) ⟨rfl, eg_ii hI⟩ T 0 (by omega)
end
section
/-! prepare, commit, abort -/
theorem i_vc_prepare {k : Nat} {u : SX} {v : SY} (I : i_Rel k u v) (hk : k + 5 ≤ 2564) (v1 : Int32) : wpX_prepare (fun r u' => wpY_prepare (fun r' v' => r' = r ∧ i_Rel (k + 5) u' v') v v1) u v1 := by
  refine eg_el (P := fun u v => wpX_prepare (fun r u' => wpY_prepare (fun r' v' => r' = r ∧ i_Rel (k + 5) u' v') v v1) u v1) ?_ I
  intro C T L R z kp lf m up va st ne gl gm ek es en nt bV bS bN ac aN yl ym nV nS nN hI
  have hM := hI.2.2.2.2.2.2.2.2.2.2.2
  obtain ⟨c1, c2, t1, t2, l1, l2, r1, r2, k1, z1⟩ := hI.1
  refine br_c (fun h => br_t h ⟨rfl, eg_ii hI⟩) (fun hu => ?_)
  obtain rfl : m = z := hM.1 hu
  rcases eg_ix2 v1 (n := T) (by omega) with ht | ⟨t, ht, rfl⟩
  · exact eg_xpb ht (br_t rfl (br_f hu (eg_yldL (by omega) (eg_w6 hI) (fun nV nS nN hx => eg_ysb t2 ht (br_f (by decide) ⟨rfl, eg_ii hI⟩)))))
  have ct : (nI t).toNatClampNeg = t := nI_clamp (by omega)
  have v6 : vp_in (nI t) 6 := vp_in_nI (by omega) (by omega)
  have v12 : vp_in (nI t) 12 := vp_in_nI (by omega) (by omega)
  refine eg_xpg ht t2 (fun h0 => br_t rfl (br_f hu (eg_yldL (by omega) (eg_w6 hI) (fun nV nS nN hx => eg_ysg ht t2 (br_t rfl ⟨v6, br_t (by rw [ct, ← (eg_lv hI hx).2.1 t (by omega)]; exact h0) ⟨rfl, eg_ii hI⟩⟩))))) (fun h0 => br_f (by decide) ?_)
  by_cases h2 : st t = 2
  · exact ⟨v12, br_t (by rw [ct]; exact h2) (br_f hu (eg_yldL (by omega) (eg_w6 hI) (fun nV nS nN hx => eg_ysg ht t2 (br_t rfl ⟨v6, br_f (by rw [ct, ← (eg_lv hI hx).2.1 t (by omega)]; exact h0) ⟨v6, br_t (by rw [ct, ← (eg_lv hI hx).2.1 t (by omega)]; exact h2) ⟨rfl, eg_ii hI⟩⟩⟩))))⟩
  refine ⟨v12, br_f (by rw [ct]; exact h2) ?_⟩
  by_cases hz : m < R
  · refine br_t (nI_lt hz (by omega)) ?_
    exact eg_xape (by omega) (by omega) c2 (br_f hu (eg_yldL (by omega) (eg_w6 hI) (fun nV nS nN hx => eg_ysg ht t2 (br_t rfl ⟨v6, br_f (by rw [ct, ← (eg_lv hI hx).2.1 t (by omega)]; exact h0) ⟨v6, br_f (by rw [ct, ← (eg_lv hI hx).2.1 t (by omega)]; exact h2) (br_t (nI_lt hz (by omega)) (eg_yap (by omega) (by omega) ⟨v6, nm_r (e' := upd ac t 0) (by rw [ct, eg_nb0]) ⟨rfl, eg_ii (eg_Iap hI hu ht h0 hz (fun c hc => (eg_lv hI hx).2.2 t c (by omega) hc h0) (fun c hc => hx.2.2 _ (by omega)))⟩⟩))⟩⟩))))
  · exact br_f (nI_nlt (by omega) (by omega)) (br_f hu (eg_yldL (by omega) (eg_w6 hI) (fun nV nS nN hx => eg_ysg ht t2 (br_t rfl ⟨v6, br_f (by rw [ct, ← (eg_lv hI hx).2.1 t (by omega)]; exact h0) ⟨v6, br_f (by rw [ct, ← (eg_lv hI hx).2.1 t (by omega)]; exact h2) (br_f (nI_nlt (by omega) (by omega)) ⟨rfl, eg_ii hI⟩)⟩⟩))))
theorem i_vc_commit {k : Nat} {u : SX} {v : SY} (I : i_Rel k u v) (hk : k + 5 ≤ 2564) (v1 : Int32) : wpX_commit (fun r u' => wpY_commit (fun r' v' => r' = r ∧ i_Rel (k + 5) u' v') v v1) u v1 := by
  refine eg_el (P := fun u v => wpX_commit (fun r u' => wpY_commit (fun r' v' => r' = r ∧ i_Rel (k + 5) u' v') v v1) u v1) ?_ I
  intro C T L R z kp lf m up va st ne gl gm ek es en nt bV bS bN ac aN yl ym nV nS nN hI
  have hM := hI.2.2.2.2.2.2.2.2.2.2.2
  obtain ⟨c1, c2, t1, t2, l1, l2, r1, r2, k1, z1⟩ := hI.1
  refine br_c (fun h => br_t h ⟨rfl, eg_ii hI⟩) (fun hu => ?_)
  obtain rfl : m = z := hM.1 hu
  rcases eg_ix2 v1 (n := T) (by omega) with ht | ⟨t, ht, rfl⟩
  · exact eg_xpb ht (br_t rfl (br_f hu (eg_yldL (by omega) (eg_w6 hI) (fun nV nS nN hx => eg_ysb t2 ht (br_f (by decide) ⟨rfl, eg_ii hI⟩)))))
  have ct : (nI t).toNatClampNeg = t := nI_clamp (by omega)
  have v6 : vp_in (nI t) 6 := vp_in_nI (by omega) (by omega)
  have v12 : vp_in (nI t) 12 := vp_in_nI (by omega) (by omega)
  refine eg_xpg ht t2 (fun h0 => br_t rfl (br_f hu (eg_yldL (by omega) (eg_w6 hI) (fun nV nS nN hx => eg_ysg ht t2 (br_t rfl ⟨v6, br_t (by rw [ct, ← (eg_lv hI hx).2.1 t (by omega)]; exact h0) ⟨rfl, eg_ii hI⟩⟩))))) (fun h0 => br_f (by decide) ?_)
  by_cases hz : m < R
  · refine br_t (nI_lt hz (by omega)) ?_
    exact eg_xape (by omega) (by omega) c2 (br_f hu (eg_yldL (by omega) (eg_w6 hI) (fun nV nS nN hx => eg_ysg ht t2 (br_t rfl ⟨v6, br_f (by rw [ct, ← (eg_lv hI hx).2.1 t (by omega)]; exact h0) (br_t (nI_lt hz (by omega)) (eg_yap (by omega) (by omega) ⟨v6, nm_r (e' := upd ac t 0) (by rw [ct, eg_nb0]) ⟨rfl, eg_ii (eg_Iap hI hu ht h0 hz (fun c hc => (eg_lv hI hx).2.2 t c (by omega) hc h0) (fun c hc => hx.2.2 _ (by omega)))⟩⟩))⟩))))
  · exact br_f (nI_nlt (by omega) (by omega)) (br_f hu (eg_yldL (by omega) (eg_w6 hI) (fun nV nS nN hx => eg_ysg ht t2 (br_t rfl ⟨v6, br_f (by rw [ct, ← (eg_lv hI hx).2.1 t (by omega)]; exact h0) (br_f (nI_nlt (by omega) (by omega)) ⟨rfl, eg_ii hI⟩)⟩))))
theorem i_vc_abort {k : Nat} {u : SX} {v : SY} (I : i_Rel k u v) (hk : k + 5 ≤ 2564) (v1 : Int32) : wpX_abort (fun r u' => wpY_abort (fun r' v' => r' = r ∧ i_Rel (k + 5) u' v') v v1) u v1 := by
  refine eg_el (P := fun u v => wpX_abort (fun r u' => wpY_abort (fun r' v' => r' = r ∧ i_Rel (k + 5) u' v') v v1) u v1) ?_ I
  intro C T L R z kp lf m up va st ne gl gm ek es en nt bV bS bN ac aN yl ym nV nS nN hI
  have hM := hI.2.2.2.2.2.2.2.2.2.2.2
  obtain ⟨c1, c2, t1, t2, l1, l2, r1, r2, k1, z1⟩ := hI.1
  refine br_c (fun h => br_t h ⟨rfl, eg_ii hI⟩) (fun hu => ?_)
  obtain rfl : m = z := hM.1 hu
  rcases eg_ix2 v1 (n := T) (by omega) with ht | ⟨t, ht, rfl⟩
  · exact eg_xpb ht (br_t rfl (br_f hu (eg_yldL (by omega) (eg_w6 hI) (fun nV nS nN hx => eg_ysb t2 ht (br_f (by decide) ⟨rfl, eg_ii hI⟩)))))
  have ct : (nI t).toNatClampNeg = t := nI_clamp (by omega)
  have v6 : vp_in (nI t) 6 := vp_in_nI (by omega) (by omega)
  have v12 : vp_in (nI t) 12 := vp_in_nI (by omega) (by omega)
  refine eg_xpg ht t2 (fun h0 => br_t rfl (br_f hu (eg_yldL (by omega) (eg_w6 hI) (fun nV nS nN hx => eg_ysg ht t2 (br_t rfl ⟨v6, br_t (by rw [ct, ← (eg_lv hI hx).2.1 t (by omega)]; exact h0) ⟨rfl, eg_ii hI⟩⟩))))) (fun h0 => br_f (by decide) ?_)
  have hl := eg_lst hI
  by_cases ha : ac t = 0
  · have h2 : st t = 2 := (hl.2.1 t (by omega) ha).resolve_left h0
    refine ⟨v12, br_f (by rw [ct, h2]; decide) ?_⟩
    by_cases hz : m < R
    · refine br_t (nI_lt hz (by omega)) ?_
      exact eg_xape (by omega) (by omega) c2 (br_f hu (eg_yldL (by omega) (eg_w6 hI) (fun nV nS nN hx => eg_ysg ht t2 (br_t rfl ⟨v6, br_f (by rw [ct, ← (eg_lv hI hx).2.1 t (by omega)]; exact h0) ⟨v6, br_t (by rw [ct, ← (eg_lv hI hx).2.1 t (by omega)]; exact h2) (br_t (nI_lt hz (by omega)) (eg_yap (by omega) (by omega) ⟨v6, nm_r (e' := upd ac t 0) (by rw [ct, eg_nb0]) ⟨rfl, eg_ii (eg_Iap hI hu ht h0 hz (fun c hc => (eg_lv hI hx).2.2 t c (by omega) hc h0) (fun c hc => hx.2.2 _ (by omega)))⟩⟩))⟩⟩))))
    · exact br_f (nI_nlt (by omega) (by omega)) (br_f hu (eg_yldL (by omega) (eg_w6 hI) (fun nV nS nN hx => eg_ysg ht t2 (br_t rfl ⟨v6, br_f (by rw [ct, ← (eg_lv hI hx).2.1 t (by omega)]; exact h0) ⟨v6, br_t (by rw [ct, ← (eg_lv hI hx).2.1 t (by omega)]; exact h2) (br_f (nI_nlt (by omega) (by omega)) ⟨rfl, eg_ii hI⟩)⟩⟩))))
  · have h1 : st t = 1 := hl.2.2 t (by omega) ha
    refine ⟨v12, br_t (by rw [ct]; exact h1) ⟨v12, nm_r (e' := upd st t 0) (by rw [ct]) ?_⟩⟩
    exact br_f hu (eg_yldL (by omega) (eg_w6 hI) (fun nV nS nN hx => eg_ysg ht t2 (br_t rfl ⟨v6, br_f (by rw [ct, ← (eg_lv hI hx).2.1 t (by omega)]; exact h0) ⟨v6, br_f (by rw [ct, ← (eg_lv hI hx).2.1 t (by omega), h1]; decide) ⟨v6, nm_r (e' := upd ac t 0) (by rw [ct, eg_nb0]) ⟨rfl, eg_ii (eg_Iab hI hu ht h1)⟩⟩⟩⟩)))
end
section
/-! ask, value, net -/
theorem eg_vNb {ek es en nt b b' bS : Nat → Int32} {i : Nat} (hn : ∀ e, en (e * 6 + i % 6) = nt (e * 6 + i % 6)) (hb : ¬ bS (i / 6) = 0 → b i = b' i) : ∀ j, ¬ eg_vS ek es bS j (i / 6) = 0 → eg_vN ek es en b j i = eg_vN ek es nt b' j i
  | 0, h => hb h
  | j + 1, h => by
    have h' : ¬ (if (es j).toNatClampNeg = i / 6 then (if ek j = 0 then 2 else 0) else eg_vS ek es bS j (i / 6)) = 0 := h
    show (if ek j = 0 ∧ (es j).toNatClampNeg = i / 6 then en (j * 6 + i % 6) else eg_vN ek es en b j i) = (if ek j = 0 ∧ (es j).toNatClampNeg = i / 6 then nt (j * 6 + i % 6) else eg_vN ek es nt b' j i)
    by_cases e : (es j).toNatClampNeg = i / 6
    · rw [if_pos e] at h'
      by_cases e0 : ek j = 0
      · rw [if_pos ⟨e0, e⟩, if_pos ⟨e0, e⟩, hn]
      · rw [if_neg e0] at h'
        exact absurd rfl h'
    · rw [if_neg e] at h'
      rw [if_neg (fun q => e q.2), if_neg (fun q => e q.2)]
      exact eg_vNb hn hb j h'
section
variable {C T L R z kp lf : Nat} {up : Int32} {va st ne gl gm ek es en : Nat → Int32} {nt bV bS bN ac aN yl ym nV nS nN : Nat → Int32}
/-- the sums for the verdict, over X's arrays and over Y's -/
theorem eg_dxy {c : Nat} {w : Int32} (hI : eg_Inv C T L R z kp lf up va st ne gl gm ek es en nt bV bS bN ac aN yl ym z) (hc : c < C) (hx : eg_Ex nV nS nN (eg_vV ek nt bV z) (eg_oS ac (eg_vS ek es bS z)) (eg_oN ac aN (eg_vN ek es nt bN z))) : ∀ t, t < 6 → eg_d st ne c w t = eg_d nS nN c w t := by
  have hL := eg_lv hI hx
  exact eg_dc hL.2.1 (fun t ht h0 => hL.2.2 t c ht hc h0)
theorem eg_dz {c : Nat} {w : Int32} (hI : eg_Inv C T L R z kp lf up va st ne gl gm ek es en nt bV bS bN ac aN yl ym z) : ∀ t, T ≤ t → t < 6 → eg_d st ne c w t = 0 := fun t h1 h2 => if_pos ((eg_lst hI).1 t h1 h2)
theorem eg_lrw {c : Nat} {w : Int32} (hI : eg_Inv C T L R z kp lf up va st ne gl gm ek es en nt bV bS bN ac aN yl ym z) (hc : c < C) : eg_All (va c).toInt (eg_d st ne c w) 0 L := eg_AllS (fun t ht => eg_dw ht) (eg_lrg hI c hc)
theorem eg_bd {v : Int} {d : Nat → Int} (hL : L ≤ 60) (hA : eg_All v d 0 L) : (-1000 ≤ v ∧ v ≤ 1000) ∧ ∀ t, t < 6 → -1000 ≤ d t ∧ d t ≤ 1000 := by
  have hv := eg_AllV hA
  refine ⟨by omega, fun t ht => ?_⟩
  have := eg_AllD ht hA
  omega
/-- the verdict over the loaded live state -/
theorem eg_yvl {post : Int32 → Prop} {c : Nat} {w lo hi : Int32} (hI : eg_Inv C T L R z kp lf up va st ne gl gm ek es en nt bV bS bN ac aN yl ym z) (hc : c < C) (hx : eg_Ex nV nS nN (eg_vV ek nt bV z) (eg_oS ac (eg_vS ek es bS z)) (eg_oN ac aN (eg_vN ek es nt bN z)))
    (K : ∀ r, eg_An (va c).toInt (eg_d st ne c w) lo.toInt hi.toInt r → post r) : wpY_verdict post (nI C, nI T, nI L, nI R, up, nI lf, nI z, nI kp, ek, es, nt, bV, bS, bN, ac, aN, yl, ym, nV, nS, nN) (nI c) w lo hi := by
  obtain ⟨c1, c2, t1, t2, l1, l2, r1, r2, k1, z1⟩ := hI.1
  have hb := eg_bd l2 (eg_lrw (w := w) hI hc)
  have hv := (eg_lv hI hx).1 c hc
  rw [hv] at hb K
  exact eg_yv (by omega) (eg_dxy hI hc hx) hb.1 hb.2 K
end
theorem i_vc_ask {k : Nat} {u : SX} {v : SY} (I : i_Rel k u v) (hk : k + 5 ≤ 2564) (v1 : Int32) (v2 : Int32) (v3 : Int32) : wpX_ask (fun r => wpY_ask (fun r' v' => r' = r ∧ i_Rel (k + 5) u v') v v1 v2 v3) u v1 v2 v3 := by
  refine eg_el (P := fun u v => wpX_ask (fun r => wpY_ask (fun r' v' => r' = r ∧ i_Rel (k + 5) u v') v v1 v2 v3) u v1 v2 v3) ?_ I
  intro C T L R z kp lf m up va st ne gl gm ek es en nt bV bS bN ac aN yl ym nV nS nN hI
  have hM := hI.2.2.2.2.2.2.2.2.2.2.2
  obtain ⟨c1, c2, t1, t2, l1, l2, r1, r2, k1, z1⟩ := hI.1
  refine br_c (fun h => br_t h ⟨rfl, eg_ii hI⟩) (fun hu => ?_)
  obtain rfl : m = z := hM.1 hu
  rcases eg_ix2 v1 (n := C) (by omega) with hc | ⟨c, hc, rfl⟩
  · exact eg_xcb hc (br_t rfl (br_f hu (eg_ycb hc (br_f (by decide) ⟨rfl, eg_ii hI⟩))))
  refine eg_xcg hc c2 (br_f (by decide) ?_)
  refine eg_xoj (d := eg_d st ne c (-1)) (by omega) t2 l2 (fun t ht => rfl) (eg_dz hI) (eg_lrw hI hc) (fun r hr => ?_)
  exact br_f hu (eg_ycg hc c2 (br_t rfl (eg_yldL (by omega) (eg_w6 hI) (fun nV nS nN hx => eg_yvl hI hc hx (fun r' hr' => ⟨eg_AnU hr hr', eg_ii hI⟩)))))
section
variable {C T L R z kp lf : Nat} {up : Int32} {va st ne gl gm ek es en : Nat → Int32}
theorem eg_xvb {post : Int32 → Prop} {p : Int32} (hz : z ≤ 24) (h1 : ¬ p = 100) (h : p < 0 ∨ nI (z + 1) ≤ p) (K : post 0) : wpX_isView post (0, 1, 2, 0, 1, 2, 0, 1, nI C, nI T, nI L, nI R, nI z, nI kp, up, nI lf, va, st, ne, gl, gm, ek, es, en) p := by
  refine br_f h1 (br_c (fun _ => K) (fun h2 => br_t ?_ K))
  have h3 := h.resolve_left h2
  rw [Int32.le_iff_toInt_le, nI_toInt (by omega)] at h3
  rw [Int32.lt_iff_toInt_lt, nI_toInt (by omega)]
  omega
theorem eg_xvg {post : Int32 → Prop} {j : Nat} (hz : z ≤ 24) (hj : j < z + 1) (K : post 1) : wpX_isView post (0, 1, 2, 0, 1, 2, 0, 1, nI C, nI T, nI L, nI R, nI z, nI kp, up, nI lf, va, st, ne, gl, gm, ek, es, en) (nI j) :=
  br_f (fun e => absurd ((nI_eq (b := 100) (by omega) (by omega)).mp e) (by omega)) (br_f (nI_pos (by omega)) (br_f (nI_nlt (by omega) (by omega)) K))
end
theorem i_vc_value {k : Nat} {u : SX} {v : SY} (I : i_Rel k u v) (hk : k + 5 ≤ 2564) (v1 : Int32) (v2 : Int32) : wpX_value (fun r => wpY_value (fun r' v' => r' = r ∧ i_Rel (k + 5) u v') v v1 v2) u v1 v2 := by
  refine eg_el (P := fun u v => wpX_value (fun r => wpY_value (fun r' v' => r' = r ∧ i_Rel (k + 5) u v') v v1 v2) u v1 v2) ?_ I
  intro C T L R z kp lf m up va st ne gl gm ek es en nt bV bS bN ac aN yl ym nV nS nN hI
  have hM := hI.2.2.2.2.2.2.2.2.2.2.2
  obtain ⟨c1, c2, t1, t2, l1, l2, r1, r2, k1, z1⟩ := hI.1
  refine br_c (fun h => br_t h ⟨rfl, eg_ii hI⟩) (fun hu => ?_)
  obtain rfl : m = z := hM.1 hu
  have hIm := hI.2.2.2.2.2.2.2.2.1
  have hA := hI.2.2.1
  have hB := hI.2.2.2.2.2.1
  rcases eg_ix2 v1 (n := C) (by omega) with hc | ⟨c, hc, rfl⟩
  · exact eg_xcb hc (br_t rfl (br_f hu (eg_ycb hc (br_f (by decide) ⟨rfl, eg_ii hI⟩))))
  refine eg_xcg hc c2 (br_f (by decide) ?_)
  have cc : (nI c).toNatClampNeg = c := nI_clamp (by omega)
  have v12 : vp_in (nI c) 12 := vp_in_nI (by omega) (by omega)
  have v6 : vp_in (nI c) 6 := vp_in_nI (by omega) (by omega)
  by_cases hl : v2 = 100
  · subst hl
    refine br_t rfl (br_f (by decide) (br_t rfl ⟨v12, br_f hu (eg_ycg hc c2 (br_t rfl (br_t rfl ?_)))⟩))
    refine eg_yldL (by omega) (eg_w6 hI) (fun nV nS nN hx => ⟨v6, ?_, eg_ii hI⟩)
    rw [cc]
    exact ((eg_lv hI hx).1 c hc).symm
  rcases eg_ix2 v2 (n := m + 1) (by omega) with hj | ⟨j, hj, rfl⟩
  · refine eg_xvb (by omega) hl hj (br_t rfl (br_f hu (eg_ycg hc c2 (br_t rfl (br_f hl (br_c (fun _ => ⟨rfl, eg_ii hI⟩) (fun h2 => br_f ?_ ⟨rfl, eg_ii hI⟩)))))))
    have h3 := hj.resolve_left h2
    rw [Int32.le_iff_toInt_le, nI_toInt (by omega)] at h3
    rw [Int32.le_iff_toInt_le, nI_toInt (by omega)]
    omega
  refine eg_xvg (by omega) hj (br_f (by decide) (br_f hl ?_))
  refine eg_xvv (by omega) (by omega) (br_f hu (eg_ycg hc c2 (br_t rfl (br_f hl (br_f (nI_pos (by omega)) (br_t (nI_le (by omega) (by omega)) ?_))))))
  refine eg_yldK (by omega) (by omega) (eg_w6 hI) (fun nV nS nN hx => ⟨v6, ?_, eg_ii hI⟩)
  rw [cc, hx.1 c (by omega)]
  exact (eg_vVc j (fun _ _ => rfl) (fun e he => hA _ (by rw [(eg_dm (by omega)).2]; exact hc)) (hB.1 c hc)).symm
theorem i_vc_net {k : Nat} {u : SX} {v : SY} (I : i_Rel k u v) (hk : k + 5 ≤ 2564) (v1 : Int32) (v2 : Int32) (v3 : Int32) : wpX_net (fun r => wpY_net (fun r' v' => r' = r ∧ i_Rel (k + 5) u v') v v1 v2 v3) u v1 v2 v3 := by
  refine eg_el (P := fun u v => wpX_net (fun r => wpY_net (fun r' v' => r' = r ∧ i_Rel (k + 5) u v') v v1 v2 v3) u v1 v2 v3) ?_ I
  intro C T L R z kp lf m up va st ne gl gm ek es en nt bV bS bN ac aN yl ym nV nS nN hI
  have hM := hI.2.2.2.2.2.2.2.2.2.2.2
  obtain ⟨c1, c2, t1, t2, l1, l2, r1, r2, k1, z1⟩ := hI.1
  refine br_c (fun h => br_t h ⟨rfl, eg_ii hI⟩) (fun hu => ?_)
  obtain rfl : m = z := hM.1 hu
  have hIm := hI.2.2.2.2.2.2.2.2.1
  have hA := hI.2.2.1
  have hB := hI.2.2.2.2.2.1
  rcases eg_ix2 v1 (n := T) (by omega) with ht | ⟨t, ht, rfl⟩
  · exact eg_xsb ht (br_t rfl (br_f hu (eg_ysb t2 ht (br_f (by decide) ⟨rfl, eg_ii hI⟩))))
  refine eg_xsg ht t2 (br_f (by decide) ?_)
  rcases eg_ix2 v2 (n := C) (by omega) with hc | ⟨c, hc, rfl⟩
  · exact eg_xcb hc (br_t rfl (br_f hu (eg_ysg ht t2 (br_t rfl (eg_ycb hc (br_f (by decide) ⟨rfl, eg_ii hI⟩))))))
  refine eg_xcg hc c2 (br_f (by decide) ?_)
  have ct : (nI t).toNatClampNeg = t := nI_clamp (by omega)
  have v6 : vp_in (nI t) 6 := vp_in_nI (by omega) (by omega)
  have v36 : vp_in (nI t * 6 + nI c) 36 := eg_in (by omega) (by omega)
  have cc := eg_cl (t := t) (c := c) (by omega)
  by_cases hl : v3 = 100
  · subst hl
    refine br_t rfl (br_f (by decide) (br_t rfl ?_))
    have z6 : 0 * 6 + t = t := by omega
    have z36 : 0 * 36 + (t * 6 + c) = t * 6 + c := by omega
    refine eg_xim (g := 0) (by omega) (by omega) (by omega) (fun h0 => br_f hu (eg_ysg ht t2 (br_t rfl (eg_ycg hc c2 (br_t rfl (br_t rfl ?_)))))) (fun h0 => br_f hu (eg_ysg ht t2 (br_t rfl (eg_ycg hc c2 (br_t rfl (br_t rfl ?_))))))
    · rw [z6] at h0
      exact eg_yldL (by omega) (eg_w6 hI) (fun nV nS nN hx => ⟨v6, br_t (by rw [ct, ← (eg_lv hI hx).2.1 t (by omega)]; exact h0) ⟨rfl, eg_ii hI⟩⟩)
    · rw [z6] at h0
      rw [z36]
      exact eg_yldL (by omega) (eg_w6 hI) (fun nV nS nN hx => ⟨v6, br_f (by rw [ct, ← (eg_lv hI hx).2.1 t (by omega)]; exact h0) ⟨v36, by rw [cc]; exact ((eg_lv hI hx).2.2 t c (by omega) hc h0).symm, eg_ii hI⟩⟩)
  rcases eg_ix2 v3 (n := m + 1) (by omega) with hj | ⟨j, hj, rfl⟩
  · refine eg_xvb (by omega) hl hj (br_t rfl (br_f hu (eg_ysg ht t2 (br_t rfl (eg_ycg hc c2 (br_t rfl (br_f hl (br_c (fun _ => ⟨rfl, eg_ii hI⟩) (fun h2 => br_f ?_ ⟨rfl, eg_ii hI⟩)))))))))
    have h3 := hj.resolve_left h2
    rw [Int32.le_iff_toInt_le, nI_toInt (by omega)] at h3
    rw [Int32.le_iff_toInt_le, nI_toInt (by omega)]
    omega
  refine eg_xvg (by omega) hj (br_f (by decide) (br_f hl ?_))
  refine eg_xvn (by omega) (by omega) (by omega) (fun i hi => eg_w6 hI i (by omega)) (br_f hu (eg_ysg ht t2 (br_t rfl (eg_ycg hc c2 (br_t rfl (br_f hl (br_f (nI_pos (by omega)) (br_t (nI_le (by omega) (by omega)) ?_))))))))
  refine eg_yldK (by omega) (by omega) (eg_w6 hI) (fun nV nS nN hx => ⟨v6, ?_⟩)
  have eS : eg_vS ek es (fun i => st (6 + i)) j t = eg_vS ek es bS j t := eg_vSc j (fun _ _ => rfl) (fun _ _ => rfl) (hB.2.1 t (by omega))
  unfold eg_vr
  rw [eS]
  by_cases h0 : eg_vS ek es bS j t = 0
  · rw [if_pos h0]
    exact br_t (by rw [ct, hx.2.1 t (by omega)]; exact h0) ⟨rfl, eg_ii hI⟩
  · rw [if_neg h0]
    refine br_f (by rw [ct, hx.2.1 t (by omega)]; exact h0) ⟨v36, ?_, eg_ii hI⟩
    rw [cc, hx.2.2 _ (by omega)]
    have d1 := eg_dm (t := t) (c := c) (by omega)
    refine (eg_vNb (bS := bS) (fun e => hA _ (by rw [d1.2, (eg_dm (by omega)).2]; exact hc)) (fun q => hB.2.2 (t * 6 + c) (by omega) (by rw [d1.2]; exact hc) q) j ?_).symm
    rw [d1.1]
    exact h0
end
section
/-! guard, reserve -/
def eg_nl (g : Nat → Int32) (i : Nat) (lo : Int32) : Nat → Int32 := if lo ≤ g i then g else upd g i lo
def eg_nh (g : Nat → Int32) (i : Nat) (hi : Int32) : Nat → Int32 := if g i ≤ hi then g else upd g i hi
theorem eg_AgU {C i : Nat} {a b : Nat → Int32} {x : Int32} (h : eg_Ag C a b) : eg_Ag C (upd a i x) (upd b i x) := by
  intro j hj
  by_cases e : j = i
  · rw [e, pk_us, pk_us]
  · rw [pk_un e, pk_un e, h j hj]
theorem eg_AgL {C i : Nat} {a b : Nat → Int32} {x : Int32} (h : eg_Ag C a b) (hi : i % 6 < C) : eg_Ag C (eg_nl a i x) (eg_nl b i x) := by
  unfold eg_nl
  rw [h i hi]
  split
  · exact h
  · exact eg_AgU h
theorem eg_AgH {C i : Nat} {a b : Nat → Int32} {x : Int32} (h : eg_Ag C a b) (hi : i % 6 < C) : eg_Ag C (eg_nh a i x) (eg_nh b i x) := by
  unfold eg_nh
  rw [h i hi]
  split
  · exact h
  · exact eg_AgU h
section
variable {C T L R z kp lf : Nat} {up : Int32} {va st ne gl gm ek es en : Nat → Int32} {nt bV bS bN ac aN yl ym nV nS nN : Nat → Int32}
theorem eg_xn17 {post : SX → Prop} {i : Nat} {hi : Int32} (h36 : i < 36) (K : post (0, 1, 2, 0, 1, 2, 0, 1, nI C, nI T, nI L, nI R, nI z, nI kp, up, nI lf, va, st, ne, gl, eg_nh gm i hi, ek, es, en)) : wX_narrow_17 post (nI i) hi 0 1 2 0 1 2 0 1 (nI C) (nI T) (nI L) (nI R) (nI z) (nI kp) up (nI lf) va st ne gl gm ek es en := by
  have ci : (nI i).toNatClampNeg = i := nI_clamp (by omega)
  have v36 : vp_in (nI i) 36 := vp_in_nI h36 (by omega)
  unfold eg_nh at K
  refine ⟨v36, br_c (fun h => ?_) (fun h => ⟨v36, nm_r (e' := upd gm i hi) (by rw [ci]) ?_⟩)⟩
  · rw [ci] at h
    rw [if_pos h] at K
    exact K
  · rw [ci] at h
    rw [if_neg h] at K
    exact K
theorem eg_xnw {post : SX → Prop} {i : Nat} {lo hi : Int32} (h36 : i < 36) (K : post (0, 1, 2, 0, 1, 2, 0, 1, nI C, nI T, nI L, nI R, nI z, nI kp, up, nI lf, va, st, ne, eg_nl gl i lo, eg_nh gm i hi, ek, es, en)) : wpX_narrow post (0, 1, 2, 0, 1, 2, 0, 1, nI C, nI T, nI L, nI R, nI z, nI kp, up, nI lf, va, st, ne, gl, gm, ek, es, en) (nI i) lo hi := by
  have ci : (nI i).toNatClampNeg = i := nI_clamp (by omega)
  have v36 : vp_in (nI i) 36 := vp_in_nI h36 (by omega)
  unfold eg_nl at K
  refine ⟨v36, br_c (fun h => ?_) (fun h => ⟨v36, nm_r (e' := upd gl i lo) (by rw [ci]) ?_⟩)⟩
  · rw [ci] at h
    rw [if_pos h] at K
    exact eg_xn17 h36 K
  · rw [ci] at h
    rw [if_neg h] at K
    exact eg_xn17 h36 K
theorem eg_y104 {post : Int32 → SY → Prop} {t c : Nat} {hi r : Int32} (ht : t < 6) (hc : c < 6) (K : post r (nI C, nI T, nI L, nI R, up, nI lf, nI z, nI kp, ek, es, nt, bV, bS, bN, ac, aN, yl, eg_nh ym (t * 6 + c) hi, nV, nS, nN)) : wY_guard_104 post (nI t) (nI c) hi r (nI C) (nI T) (nI L) (nI R) up (nI lf) (nI z) (nI kp) ek es nt bV bS bN ac aN yl ym nV nS nN := by
  have ci := eg_cl (t := t) (c := c) (by omega)
  have v36 : vp_in (nI t * 6 + nI c) 36 := eg_in (by omega) (by omega)
  unfold eg_nh at K
  refine ⟨v36, br_c (fun h => ?_) (fun h => ⟨v36, nm_r (e' := upd ym (t * 6 + c) hi) (by rw [ci]) ?_⟩)⟩
  · rw [ci] at h
    rw [if_pos h] at K
    exact K
  · rw [ci] at h
    rw [if_neg h] at K
    exact K
theorem eg_Igd {i : Nat} {lo hi : Int32} {m : Nat} (hI : eg_Inv C T L R z kp lf up va st ne gl gm ek es en nt bV bS bN ac aN yl ym m) (h : i % 6 < C) : eg_Inv C T L R z kp lf up va st ne (eg_nl gl i lo) (eg_nh gm i hi) ek es en nt bV bS bN ac aN (eg_nl yl i lo) (eg_nh ym i hi) m := by
  obtain ⟨hCf, hWh, hA1, hA2, hA3, hB, hB2, hAc, hIm, hR, hRo, hMd⟩ := hI
  exact ⟨hCf, hWh, hA1, eg_AgL hA2 h, eg_AgH hA3 h, hB, hB2, hAc, hIm, hR, hRo, hMd⟩
end
theorem i_vc_guard {k : Nat} {u : SX} {v : SY} (I : i_Rel k u v) (hk : k + 5 ≤ 2564) (v1 : Int32) (v2 : Int32) (v3 : Int32) (v4 : Int32) : wpX_guard (fun r u' => wpY_guard (fun r' v' => r' = r ∧ i_Rel (k + 5) u' v') v v1 v2 v3 v4) u v1 v2 v3 v4 := by
  refine eg_el (P := fun u v => wpX_guard (fun r u' => wpY_guard (fun r' v' => r' = r ∧ i_Rel (k + 5) u' v') v v1 v2 v3 v4) u v1 v2 v3 v4) ?_ I
  intro C T L R z kp lf m up va st ne gl gm ek es en nt bV bS bN ac aN yl ym nV nS nN hI
  have hM := hI.2.2.2.2.2.2.2.2.2.2.2
  obtain ⟨c1, c2, t1, t2, l1, l2, r1, r2, k1, z1⟩ := hI.1
  refine br_c (fun h => br_t h ⟨rfl, eg_ii hI⟩) (fun hu => ?_)
  obtain rfl : m = z := hM.1 hu
  rcases eg_ix2 v1 (n := T) (by omega) with ht | ⟨t, ht, rfl⟩
  · exact eg_xpb ht (br_t rfl (br_f hu (eg_yldL (by omega) (eg_w6 hI) (fun nV nS nN hx => eg_ysb t2 ht (br_f (by decide) ⟨rfl, eg_ii hI⟩)))))
  have ct : (nI t).toNatClampNeg = t := nI_clamp (by omega)
  have v6 : vp_in (nI t) 6 := vp_in_nI (by omega) (by omega)
  have v12 : vp_in (nI t) 12 := vp_in_nI (by omega) (by omega)
  rcases eg_ix2 v2 (n := C) (by omega) with hc | ⟨c, hc, rfl⟩
  · exact eg_xpg ht t2 (fun h0 => br_t rfl (br_f hu (eg_yldL (by omega) (eg_w6 hI) (fun nV nS nN hx => eg_ysg ht t2 (br_t rfl (eg_ycb hc (br_f (by decide) ⟨rfl, eg_ii hI⟩))))))) (fun h0 => br_f (by decide) (eg_xcb hc (br_t rfl (br_f hu (eg_yldL (by omega) (eg_w6 hI) (fun nV nS nN hx => eg_ysg ht t2 (br_t rfl (eg_ycb hc (br_f (by decide) ⟨rfl, eg_ii hI⟩)))))))))
  refine eg_xpg ht t2 (fun h0 => br_t rfl (br_f hu (eg_yldL (by omega) (eg_w6 hI) (fun nV nS nN hx => eg_ysg ht t2 (br_t rfl (eg_ycg hc c2 (br_t rfl ⟨v6, br_t (by rw [ct, ← (eg_lv hI hx).2.1 t (by omega)]; exact h0) ⟨rfl, eg_ii hI⟩⟩))))))) (fun h0 => br_f (by decide) ?_)
  refine eg_xcg hc c2 (br_f (by decide) ?_)
  have v36 : vp_in (nI t * 6 + nI c) 36 := eg_in (by omega) (by omega)
  have v72 : vp_in (nI t * 6 + nI c) 72 := eg_in (by omega) (by omega)
  have cc := eg_cl (t := t) (c := c) (by omega)
  have hm6 : (t * 6 + c) % 6 < C := by rw [(eg_dm (by omega)).2]; exact hc
  by_cases h2 : st t = 2
  · exact ⟨v12, br_t (by rw [ct]; exact h2) (br_f hu (eg_yldL (by omega) (eg_w6 hI) (fun nV nS nN hx => eg_ysg ht t2 (br_t rfl (eg_ycg hc c2 (br_t rfl ⟨v6, br_f (by rw [ct, ← (eg_lv hI hx).2.1 t (by omega)]; exact h0) ⟨v6, br_t (by rw [ct, ← (eg_lv hI hx).2.1 t (by omega)]; exact h2) ⟨rfl, eg_ii hI⟩⟩⟩))))))⟩
  refine ⟨v12, br_f (by rw [ct]; exact h2) ?_⟩
  refine eg_xoj (d := eg_d st ne c (nI t)) (by omega) t2 l2 (fun t ht => rfl) (eg_dz hI) (eg_lrw hI hc) (fun r hr => ?_)
  refine br_c (fun hr1 => ?_) (fun hr1 => br_f hu (eg_yldL (by omega) (eg_w6 hI) (fun nV nS nN hx => eg_ysg ht t2 (br_t rfl (eg_ycg hc c2 (br_t rfl ⟨v6, br_f (by rw [ct, ← (eg_lv hI hx).2.1 t (by omega)]; exact h0) ⟨v6, br_f (by rw [ct, ← (eg_lv hI hx).2.1 t (by omega)]; exact h2) (eg_yvl hI hc hx (fun r' hr' => ?_))⟩⟩))))))
  · rw [eg_ix]
    refine eg_xnw (by omega) (br_f hu (eg_yldL (by omega) (eg_w6 hI) (fun nV nS nN hx => eg_ysg ht t2 (br_t rfl (eg_ycg hc c2 (br_t rfl ⟨v6, br_f (by rw [ct, ← (eg_lv hI hx).2.1 t (by omega)]; exact h0) ⟨v6, br_f (by rw [ct, ← (eg_lv hI hx).2.1 t (by omega)]; exact h2) (eg_yvl hI hc hx (fun r' hr' => ?_))⟩⟩))))))
    have er := eg_AnU hr hr'
    subst er
    have hJ := eg_Igd (lo := v3) (hi := v4) hI hm6
    refine br_t hr1 ⟨v36, ?_⟩
    have eN : eg_nl yl (t * 6 + c) v3 = if v3 ≤ yl (t * 6 + c) then yl else upd yl (t * 6 + c) v3 := rfl
    refine br_c (fun h => ?_) (fun h => ⟨v36, nm_r (e' := upd yl (t * 6 + c) v3) (by rw [cc]) ?_⟩)
    · rw [cc] at h
      rw [if_pos h] at eN
      rw [eN] at hJ
      exact eg_y104 (by omega) (by omega) ⟨rfl, eg_ii hJ⟩
    · rw [cc] at h
      rw [if_neg h] at eN
      rw [eN] at hJ
      exact eg_y104 (by omega) (by omega) ⟨rfl, eg_ii hJ⟩
  · have er := eg_AnU hr hr'
    subst er
    exact br_f hr1 ⟨rfl, eg_ii hI⟩
end
section
/-! reserve -/
section
variable {C T L R z kp lf : Nat} {up : Int32} {ek es nt bV bS bN ac aN yl ym nV nS nN : Nat → Int32}
theorem eg_yr122 {post : Int32 → SY → Prop} {t c : Nat} {p : Int32} {d : Nat → Int} (ht : t < 6) (hT : T ≤ 6) (hc : c < 6) (hd : ∀ s, s < 6 → d s = eg_d nS nN c (-1) s) (hv : -1000 ≤ (nV c).toInt ∧ (nV c).toInt ≤ 1000) (hb : ∀ t, t < 6 → -1000 ≤ d t ∧ d t ≤ 1000)
    (K1 : (∀ s, s < T → s ≠ t → nS s = 1 → eg_G (nV c).toInt d yl ym c s) → post 1 (nI C, nI T, nI L, nI R, up, nI lf, nI z, nI kp, ek, es, nt, bV, bS, bN, ac, upd aN (t * 6 + c) (aN (t * 6 + c) + p), yl, ym, nV, nS, nN))
    (K0 : ¬ (∀ s, s < T → s ≠ t → nS s = 1 → eg_G (nV c).toInt d yl ym c s) → post 1004 (nI C, nI T, nI L, nI R, up, nI lf, nI z, nI kp, ek, es, nt, bV, bS, bN, ac, aN, yl, ym, nV, nS, nN)) :
    ∀ m u, u + m = T → (∀ s, s < u → s ≠ t → nS s = 1 → eg_G (nV c).toInt d yl ym c s) → wY_reserve_122 post (nI t) (nI c) p (nI C) (nI T) (nI L) (nI R) up (nI lf) (nI z) (nI kp) ek es nt bV bS bN ac aN yl ym nV nS nN (m + 1) (nI u) := by
  have v36 : vp_in (nI t * 6 + nI c) 36 := eg_in (by omega) (by omega)
  have cc := eg_cl (t := t) (c := c) (by omega)
  intro m
  induction m with
  | zero =>
    intro u hu H
    obtain rfl : u = T := by omega
    exact br_t (nI_le (Nat.le_refl _) (by omega)) ⟨v36, v36, nm_r (e' := upd aN (t * 6 + c) (aN (t * 6 + c) + p)) (by rw [cc]) (K1 H)⟩
  | succ m ih =>
    intro u hu H
    have cu : (nI u).toNatClampNeg = u := nI_clamp (by omega)
    have ci := eg_cl (t := u) (c := c) (by omega)
    have vi : vp_in (nI u * 6 + nI c) 36 := eg_in (by omega) (by omega)
    refine br_f (nI_ge (by omega) (by omega)) (br_c (fun e => nm_r (nI_1 u) (ih (u + 1) (by omega) (fun s hs hn h1 => ?_))) (fun e => ⟨vp_in_nI (by omega) (by omega), br_c (fun e1 => ⟨vi, vi, ?_⟩) (fun e1 => nm_r (nI_1 u) (ih (u + 1) (by omega) (fun s hs hn h1 => ?_)))⟩))
    · rw [nI_eq (by omega) (by omega)] at e
      exact H s (by omega) hn h1
    · rw [nI_eq (by omega) (by omega)] at e
      rw [cu] at e1
      rw [ci]
      refine eg_yv (d := fun r => if r = u then 0 else d r) hc (fun s hs => ?_) hv (fun s hs => ?_) (fun r hr => ?_)
      · show (if s = u then 0 else d s) = eg_d nS nN c (nI u) s
        rw [hd s hs]
        unfold eg_d
        rw [if_neg (show ¬ nI s = -1 from eg_nm1 (by omega))]
        by_cases es : s = u
        · rw [if_pos es, es, if_pos (show nI u = nI u from rfl)]
          split <;> rfl
        · rw [if_neg es, if_neg (show ¬ nI s = nI u from fun q => es ((nI_eq (by omega) (by omega)).mp q))]
      · show -1000 ≤ (if s = u then 0 else d s) ∧ (if s = u then 0 else d s) ≤ 1000
        have := hb s hs
        split <;> omega
      · have hr1 := eg_An1 hr
        refine br_c (fun q => nm_r (nI_1 u) (ih (u + 1) (by omega) (fun s hs hn h1 => ?_))) (fun q => K0 (fun w => q (hr1.mpr (w u (by omega) e e1))))
        by_cases es : s = u
        · rw [es]; exact hr1.mp q
        · exact H s (by omega) hn h1
    · rw [cu] at e1
      by_cases es : s = u
      · rw [es] at h1; exact absurd h1 e1
      · exact H s (by omega) hn h1
end
theorem eg_negL {L : Nat} (h : L < 2 ^ 31) : (-nI L).toInt = -(L : Int) := by
  rw [Int32.toInt_neg, nI_toInt h]
  exact Int.bmod_eq_of_le (by omega) (by omega)
theorem i_vc_reserve {k : Nat} {u : SX} {v : SY} (I : i_Rel k u v) (hk : k + 5 ≤ 2564) (v1 : Int32) (v2 : Int32) (v3 : Int32) : wpX_reserve (fun r u' => wpY_reserve (fun r' v' => r' = r ∧ i_Rel (k + 5) u' v') v v1 v2 v3) u v1 v2 v3 := by
  refine eg_el (P := fun u v => wpX_reserve (fun r u' => wpY_reserve (fun r' v' => r' = r ∧ i_Rel (k + 5) u' v') v v1 v2 v3) u v1 v2 v3) ?_ I
  intro C T L R z kp lf m up va st ne gl gm ek es en nt bV bS bN ac aN yl ym nV nS nN hI
  have hM := hI.2.2.2.2.2.2.2.2.2.2.2
  obtain ⟨c1, c2, t1, t2, l1, l2, r1, r2, k1, z1⟩ := hI.1
  refine br_c (fun h => br_t h ⟨rfl, eg_ii hI⟩) (fun hu => ?_)
  obtain rfl : m = z := hM.1 hu
  rcases eg_ix2 v1 (n := T) (by omega) with ht | ⟨t, ht, rfl⟩
  · exact eg_xpb ht (br_t rfl (br_f hu (eg_yldL (by omega) (eg_w6 hI) (fun nV nS nN hx => eg_ysb t2 ht (br_f (by decide) ⟨rfl, eg_ii hI⟩)))))
  have ct : (nI t).toNatClampNeg = t := nI_clamp (by omega)
  have v6 : vp_in (nI t) 6 := vp_in_nI (by omega) (by omega)
  have v12 : vp_in (nI t) 12 := vp_in_nI (by omega) (by omega)
  rcases eg_ix2 v2 (n := C) (by omega) with hc | ⟨c, hc, rfl⟩
  · exact eg_xpg ht t2 (fun h0 => br_t rfl (br_f hu (eg_yldL (by omega) (eg_w6 hI) (fun nV nS nN hx => eg_ysg ht t2 (br_t rfl (eg_ycb hc (br_f (by decide) ⟨rfl, eg_ii hI⟩))))))) (fun h0 => br_f (by decide) (eg_xcb hc (br_t rfl (br_f hu (eg_yldL (by omega) (eg_w6 hI) (fun nV nS nN hx => eg_ysg ht t2 (br_t rfl (eg_ycb hc (br_f (by decide) ⟨rfl, eg_ii hI⟩)))))))))
  refine eg_xpg ht t2 (fun h0 => br_t rfl (br_f hu (eg_yldL (by omega) (eg_w6 hI) (fun nV nS nN hx => eg_ysg ht t2 (br_t rfl (eg_ycg hc c2 (br_t rfl ⟨v6, br_t (by rw [ct, ← (eg_lv hI hx).2.1 t (by omega)]; exact h0) ⟨rfl, eg_ii hI⟩⟩))))))) (fun h0 => br_f (by decide) ?_)
  refine eg_xcg hc c2 (br_f (by decide) ?_)
  have v36 : vp_in (nI t * 6 + nI c) 36 := eg_in (by omega) (by omega)
  have v72 : vp_in (nI t * 6 + nI c) 72 := eg_in (by omega) (by omega)
  have cc := eg_cl (t := t) (c := c) (by omega)
  have hG := hI.2.2.2.1
  have hH := hI.2.2.2.2.1
  have hl := eg_lst hI
  refine br_c (fun e0 => br_f hu (eg_yldL (by omega) (eg_w6 hI) (fun nV nS nN hx => eg_ysg ht t2 (br_t rfl (eg_ycg hc c2 (br_t rfl ⟨v6, br_f (by rw [ct, ← (eg_lv hI hx).2.1 t (by omega)]; exact h0) (br_t e0 ⟨rfl, eg_ii hI⟩)⟩)))))) (fun e0 => br_c (fun e1 => br_f hu (eg_yldL (by omega) (eg_w6 hI) (fun nV nS nN hx => eg_ysg ht t2 (br_t rfl (eg_ycg hc c2 (br_t rfl ⟨v6, br_f (by rw [ct, ← (eg_lv hI hx).2.1 t (by omega)]; exact h0) (br_f e0 (br_t e1 ⟨rfl, eg_ii hI⟩))⟩)))))) (fun e1 => br_c (fun e2 => ?_) (fun e2 => br_f hu (eg_yldL (by omega) (eg_w6 hI) (fun nV nS nN hx => eg_ysg ht t2 (br_t rfl (eg_ycg hc c2 (br_t rfl ⟨v6, br_f (by rw [ct, ← (eg_lv hI hx).2.1 t (by omega)]; exact h0) (br_f e0 (br_f e1 (br_f e2 ⟨rfl, eg_ii hI⟩)))⟩))))))))
  by_cases h2 : st t = 2
  · exact ⟨v12, br_t (by rw [ct]; exact h2) (br_f hu (eg_yldL (by omega) (eg_w6 hI) (fun nV nS nN hx => eg_ysg ht t2 (br_t rfl (eg_ycg hc c2 (br_t rfl ⟨v6, br_f (by rw [ct, ← (eg_lv hI hx).2.1 t (by omega)]; exact h0) (br_f e0 (br_f e1 (br_t e2 ⟨v6, br_t (by rw [ct, ← (eg_lv hI hx).2.1 t (by omega)]; exact h2) ⟨rfl, eg_ii hI⟩⟩)))⟩))))))⟩
  have h1 : st t = 1 := hl.2.2 t (by omega) (fun q => (hl.2.1 t (by omega) q).elim h0 h2)
  refine ⟨v12, br_f (by rw [ct]; exact h2) ⟨v72, nm_r (e' := ne (t * 6 + c) + v3) (by rw [cc]) ?_⟩⟩
  have hA := eg_lrg hI c hc
  have hbd := eg_bd l2 hA
  have hA0 := eg_AllV hA
  have hp1 : -(L : Int) ≤ v3.toInt := by
    rw [Int32.lt_iff_toInt_lt, eg_negL (by omega)] at e1
    omega
  have hp2 : v3.toInt ≤ L := by
    rw [Int32.le_iff_toInt_le, nI_toInt (by omega)] at e2
    exact e2
  have hdt : eg_d st ne c (-1) t = (ne (t * 6 + c)).toInt := by
    unfold eg_d
    rw [if_neg h0, if_neg (eg_nm1 (by omega))]
  have hbt := hbd.2 t (by omega)
  rw [hdt] at hbt
  have hnx : (ne (t * 6 + c) + v3).toInt = (ne (t * 6 + c)).toInt + v3.toInt := eg_add (by omega) (by omega)
  have hAt := eg_AllD (t := t) (by omega) hA
  rw [hdt] at hAt
  obtain ⟨d, hd⟩ : ∃ d : Nat → Int, ∀ s, d s = if st s = 0 then 0 else if s = t then (ne (t * 6 + c) + v3).toInt else (ne (s * 6 + c)).toInt := ⟨_, fun _ => rfl⟩
  have hb : ∀ s, s < 6 → -1000 ≤ d s ∧ d s ≤ 1000 := by
    intro s hs
    rw [hd]
    by_cases q0 : st s = 0
    · rw [if_pos q0]; omega
    · rw [if_neg q0]
      by_cases q1 : s = t
      · rw [if_pos q1, hnx]; omega
      · rw [if_neg q1]
        have := hbd.2 s hs
        unfold eg_d at this
        rw [if_neg q0, if_neg (eg_nm1 (by omega))] at this
        exact this
  -- Y, from the trial on
  have hY : ∀ (post : Int32 → SY → Prop) (nV nS nN : Nat → Int32), eg_Ex nV nS nN (eg_vV ek nt bV m) (eg_oS ac (eg_vS ek es bS m)) (eg_oN ac aN (eg_vN ek es nt bN m)) →
      (eg_All (va c).toInt d 0 L → (∀ s, s < T → s ≠ t → st s = 1 → eg_G (va c).toInt d gl gm c s) → ∀ nN, post 1 (nI C, nI T, nI L, nI R, up, nI lf, nI m, nI kp, ek, es, nt, bV, bS, bN, ac, upd aN (t * 6 + c) (aN (t * 6 + c) + v3), yl, ym, nV, nS, nN)) →
      (¬ (eg_All (va c).toInt d 0 L ∧ ∀ s, s < T → s ≠ t → st s = 1 → eg_G (va c).toInt d gl gm c s) → ∀ nN, post 1004 (nI C, nI T, nI L, nI R, up, nI lf, nI m, nI kp, ek, es, nt, bV, bS, bN, ac, aN, yl, ym, nV, nS, nN)) →
      wpY_verdict (fun r => (r = 1 → ∃ n, wY_reserve_122 post (nI t) (nI c) v3 (nI C) (nI T) (nI L) (nI R) up (nI lf) (nI m) (nI kp) ek es nt bV bS bN ac aN yl ym nV nS (upd nN (t * 6 + c) (nN (t * 6 + c) + v3)) n 0) ∧ (¬ r = 1 → post 1004 (nI C, nI T, nI L, nI R, up, nI lf, nI m, nI kp, ek, es, nt, bV, bS, bN, ac, aN, yl, ym, nV, nS, upd nN (t * 6 + c) (nN (t * 6 + c) + v3)))) (nI C, nI T, nI L, nI R, up, nI lf, nI m, nI kp, ek, es, nt, bV, bS, bN, ac, aN, yl, ym, nV, nS, upd nN (t * 6 + c) (nN (t * 6 + c) + v3)) (nI c) (-1) 0 (nI L) := by
    intro post nV nS nN hx K1 K0
    have hL := eg_lv hI hx
    have hvc := hL.1 c hc
    have hdY : ∀ s, s < 6 → d s = eg_d nS (upd nN (t * 6 + c) (nN (t * 6 + c) + v3)) c (-1) s := by
      intro s hs
      rw [hd]
      unfold eg_d
      rw [← hL.2.1 s hs]
      by_cases q0 : st s = 0
      · rw [if_pos q0, if_pos q0]
      · rw [if_neg q0, if_neg q0, if_neg (eg_nm1 (by omega))]
        by_cases q1 : s = t
        · rw [if_pos q1, q1, pk_us, hL.2.2 t c (by omega) hc h0]
        · rw [if_neg q1, pk_un (by omega), hL.2.2 s c hs hc q0]
    have hGG : (∀ s, s < T → s ≠ t → nS s = 1 → eg_G (nV c).toInt d yl ym c s) ↔ (∀ s, s < T → s ≠ t → st s = 1 → eg_G (va c).toInt d gl gm c s) := by
      have q : ∀ s, s < T → (eg_G (nV c).toInt d yl ym c s ↔ eg_G (va c).toInt d gl gm c s) := by
        intro s hs
        unfold eg_G
        rw [hvc, hG (s * 6 + c) (by rw [(eg_dm (by omega)).2]; exact hc), hH (s * 6 + c) (by rw [(eg_dm (by omega)).2]; exact hc)]
      constructor
      · intro H s hs hn hs1
        exact (q s hs).mp (H s hs hn (by rw [← hL.2.1 s (by omega)]; exact hs1))
      · intro H s hs hn hs1
        exact (q s hs).mpr (H s hs hn (by rw [hL.2.1 s (by omega)]; exact hs1))
    have hvb := hbd.1
    rw [hvc] at hvb
    refine eg_yv (d := d) (by omega) hdY hvb hb (fun r hr => ?_)
    have hr1 := eg_An1 hr
    rw [eg_z32, nI_toInt (by omega), ← hvc] at hr1
    refine br_c (fun q => ⟨T + 1, ?_⟩) (fun q => K0 (fun w => q (hr1.mpr w.1)) _)
    exact eg_yr122 (d := d) (by omega) t2 (by omega) hdY hvb hb (fun w => K1 (hr1.mp q) (hGG.mp w) _) (fun w => K0 (fun y => w (hGG.mpr y.2)) _) T 0 (by omega) (fun s hs => absurd hs (by omega))
  refine eg_xsf (d := d) (by omega) t2 (by omega) l2 (fun s _ => hd s) (fun s q1 q2 => ?_) hbd.1 hb (fun hn => br_t rfl ?_) (fun hy1 hy2 => br_f (by decide) ⟨v72, nm_r (e' := upd ne (t * 6 + c) (ne (t * 6 + c) + v3)) (by rw [cc]) ?_⟩)
  · rw [hd, if_pos (hl.1 s q1 q2)]
  · refine br_f hu (eg_yldL (by omega) (eg_w6 hI) (fun nV nS nN hx => eg_ysg ht t2 (br_t rfl (eg_ycg hc c2 (br_t rfl ⟨v6, br_f (by rw [ct, ← (eg_lv hI hx).2.1 t (by omega)]; exact h0) (br_f e0 (br_f e1 (br_t e2 ⟨v6, br_f (by rw [ct, ← (eg_lv hI hx).2.1 t (by omega)]; exact h2) ⟨v36, v36, nm_r (e' := upd nN (t * 6 + c) (nN (t * 6 + c) + v3)) (by rw [cc]) ?_⟩⟩)))⟩)))))
    exact hY _ nV nS nN hx (fun y1 y2 => absurd ⟨y1, y2⟩ hn) (fun _ nN => ⟨rfl, eg_ii hI⟩)
  · refine br_f hu (eg_yldL (by omega) (eg_w6 hI) (fun nV nS nN hx => eg_ysg ht t2 (br_t rfl (eg_ycg hc c2 (br_t rfl ⟨v6, br_f (by rw [ct, ← (eg_lv hI hx).2.1 t (by omega)]; exact h0) (br_f e0 (br_f e1 (br_t e2 ⟨v6, br_f (by rw [ct, ← (eg_lv hI hx).2.1 t (by omega)]; exact h2) ⟨v36, v36, nm_r (e' := upd nN (t * 6 + c) (nN (t * 6 + c) + v3)) (by rw [cc]) ?_⟩⟩)))⟩)))))
    exact hY _ nV nS nN hx (fun _ _ nN => ⟨rfl, eg_ii (eg_Irs hI hu ht hc h1 rfl (fun s _ => hd s) hy1)⟩) (fun w => absurd ⟨hy1, hy2⟩ w)
end
section
/-! the constructors -/
section
variable {g0 g1 g2 g3 g4 g5 g6 g7 g8 g9 g10 g11 g12 g13 g14 g15 : Int32} {b0 b1 b2 b3 b4 b5 b6 b7 : Nat → Int32}
theorem eg_xclq {F : Int32 → Prop} {p : Int32} {a n k : Nat} (h : eg_Cp p a n k) (K : F (nI k)) : wpX_clamp F (g0, g1, g2, g3, g4, g5, g6, g7, g8, g9, g10, g11, g12, g13, g14, g15, b0, b1, b2, b3, b4, b5, b6, b7) p (nI a) (nI n) := h F K
end
section
variable {g0 g1 g2 g3 g4 g5 g6 g7 : Int32} {b0 b1 b2 b3 b4 b5 b6 b7 b8 b9 b10 b11 b12 : Nat → Int32} {post : SY → Prop}
theorem eg_yi201 {p x : Int32} {k : Nat} (h : eg_Cp p 4 24 k) (K : ∃ n, wY_init_235 post g0 g1 x (nI k) g4 g5 g6 g7 n 0 b0 b1 b2 b3 b4 b5 b6 b7 b8 b9 b10 b11 b12) : wY_init_201 post p x g0 g1 g2 g3 g4 g5 g6 g7 b0 b1 b2 b3 b4 b5 b6 b7 b8 b9 b10 b11 b12 :=
  h (fun w => ∃ n, wY_init_235 post g0 g1 x w g4 g5 g6 g7 n 0 b0 b1 b2 b3 b4 b5 b6 b7 b8 b9 b10 b11 b12) K
theorem eg_yi176 {p q x : Int32} {k : Nat} (h : eg_Cp p 1 60 k) (K : wY_init_201 post q (nI k) g0 x g2 g3 g4 g5 g6 g7 b0 b1 b2 b3 b4 b5 b6 b7 b8 b9 b10 b11 b12) : wY_init_176 post p q x g0 g1 g2 g3 g4 g5 g6 g7 b0 b1 b2 b3 b4 b5 b6 b7 b8 b9 b10 b11 b12 :=
  h (fun w => wY_init_201 post q w g0 x g2 g3 g4 g5 g6 g7 b0 b1 b2 b3 b4 b5 b6 b7 b8 b9 b10 b11 b12) K
theorem eg_yi151 {p q r x : Int32} {k : Nat} (h : eg_Cp p 1 6 k) (K : wY_init_176 post q r (nI k) x g1 g2 g3 g4 g5 g6 g7 b0 b1 b2 b3 b4 b5 b6 b7 b8 b9 b10 b11 b12) : wY_init_151 post p q r x g0 g1 g2 g3 g4 g5 g6 g7 b0 b1 b2 b3 b4 b5 b6 b7 b8 b9 b10 b11 b12 :=
  h (fun w => wY_init_176 post q r w x g1 g2 g3 g4 g5 g6 g7 b0 b1 b2 b3 b4 b5 b6 b7 b8 b9 b10 b11 b12) K
theorem eg_yi {p q r s : Int32} {k : Nat} (h : eg_Cp p 1 6 k) (K : wY_init_151 post q r s (nI k) 0 0 0 0 1 0 0 0 (fun _ => 0) (fun _ => 0) (fun _ => 0) (fun _ => 0) (fun _ => 0) (fun _ => 0) (fun _ => 0) (fun _ => 0) (fun _ => 0) (fun _ => 0) (fun _ => 0) (fun _ => 0) (fun _ => 0)) : wpY_init post p q r s :=
  h (fun w => wY_init_151 post q r s w 0 0 0 0 1 0 0 0 (fun _ => 0) (fun _ => 0) (fun _ => 0) (fun _ => 0) (fun _ => 0) (fun _ => 0) (fun _ => 0) (fun _ => 0) (fun _ => 0) (fun _ => 0) (fun _ => 0) (fun _ => 0) (fun _ => 0)) K
end
section
variable {C T L R z kp lf : Nat} {up : Int32} {va st ne gl gm ek es en : Nat → Int32} {nt bV bS bN ac aN yl ym nV nS nN : Nat → Int32}
theorem eg_xi161 {post : SX → Prop} (hL : L ≤ 60) (K : post (0, 1, 2, 0, 1, 2, 0, 1, nI C, nI T, nI L, nI R, 0, 0, 1, 0, eg_sg va 0 12 (fun _ => nI (L / 2)), st, ne, gl, gm, ek, es, en)) :
    ∀ m x, x + m = 12 → wX_init_161 post 0 1 2 0 1 2 0 1 (nI C) (nI T) (nI L) (nI R) 0 0 0 0 (m + 1) (nI x) (eg_sg va 0 x (fun _ => nI (L / 2))) st ne gl gm ek es en := by
  have e2 : nI L / 2 = nI (L / 2) := pk_div (d := 2) (by omega) (by omega) (by omega)
  intro m
  induction m with
  | zero =>
    intro x hx
    obtain rfl : x = 12 := by omega
    exact br_t (nI_le (Nat.le_refl 12) (by omega)) K
  | succ m ih =>
    intro x hx
    have c1 : (nI x).toNatClampNeg = x := nI_clamp (by omega)
    exact br_f (nI_ge (b := 12) (by omega) (by omega)) ⟨by decide, vp_in_nI (by omega) (by omega), nm_r (eg_up (by omega) e2) (nm_r (nI_1 x) (ih (x + 1) (by omega)))⟩
theorem eg_yi235 {post : SY → Prop} (hL : L ≤ 60) (K : post (nI C, nI T, nI L, nI R, 1, 0, 0, 0, ek, es, nt, eg_sg bV 0 6 (fun _ => nI (L / 2)), bS, bN, ac, aN, yl, ym, nV, nS, nN)) :
    ∀ m x, x + m = 6 → wY_init_235 post (nI C) (nI T) (nI L) (nI R) 1 0 0 0 (m + 1) (nI x) ek es nt (eg_sg bV 0 x (fun _ => nI (L / 2))) bS bN ac aN yl ym nV nS nN := by
  have e2 : nI L / 2 = nI (L / 2) := pk_div (d := 2) (by omega) (by omega) (by omega)
  intro m
  induction m with
  | zero =>
    intro x hx
    obtain rfl : x = 6 := by omega
    exact br_t (nI_le (Nat.le_refl 6) (by omega)) K
  | succ m ih =>
    intro x hx
    have c1 : (nI x).toNatClampNeg = x := nI_clamp (by omega)
    exact br_f (nI_ge (b := 6) (by omega) (by omega)) ⟨by decide, vp_in_nI (by omega) (by omega), nm_r (eg_up (by omega) e2) (nm_r (nI_1 x) (ih (x + 1) (by omega)))⟩
theorem eg_I0 (c1 : 1 ≤ C) (c2 : C ≤ 6) (t1 : 1 ≤ T) (t2 : T ≤ 6) (l1 : 1 ≤ L) (l2 : L ≤ 60) (r1 : 4 ≤ R) (r2 : R ≤ 24) :
    eg_Inv C T L R 0 0 0 1 (eg_sg (fun _ => 0) 0 12 (fun _ => nI (L / 2))) (fun _ => 0) (fun _ => 0) (fun _ => 0) (fun _ => 0) (fun _ => 0) (fun _ => 0) (fun _ => 0) (fun _ => 0) (eg_sg (fun _ => 0) 0 6 (fun _ => nI (L / 2))) (fun _ => 0) (fun _ => 0) (fun _ => 0) (fun _ => 0) (fun _ => 0) (fun _ => 0) 0 := by
  have hr : ∀ c, c < C → ∀ d : Nat → Int, (∀ t, d t = 0) → eg_All (eg_sg (fun _ => 0) 0 6 (fun _ => nI (L / 2)) c).toInt d 0 L := by
    intro c hc d hd
    rw [eg_sgi0 (by omega), nI_toInt (by omega)]
    refine eg_AllS (d := fun _ => 0) (fun t _ => Or.inr (hd t)) (fun b => ?_)
    have : eg_ps b (fun _ => 0) 6 = eg_ps (fun _ => false) (fun _ => 0) 6 := eg_psc 6 (fun t _ => by split <;> rfl)
    rw [this, eg_ps0]
    omega
  refine ⟨⟨c1, c2, t1, t2, l1, l2, r1, r2, Nat.le_refl _, by omega⟩, fun e he => absurd he (by omega), fun _ _ => rfl, fun _ _ => rfl, fun _ _ => rfl, ⟨fun c hc => ?_, fun _ _ => rfl, fun _ _ _ _ => rfl⟩, fun _ _ => Or.inl rfl, fun _ _ q => absurd rfl q, eg_Im0m (fun c hc => ?_) (fun _ _ => rfl) (fun _ _ _ _ => rfl), fun j hj c hc => ?_, fun c hc => ?_, fun _ => rfl, fun q => absurd q (by decide)⟩
  · rw [eg_sgi0 (by omega)]
    exact (eg_sgi0 (a := fun _ => 0) (n := 6) (f := fun _ => nI (L / 2)) (j := c) (by omega)).symm
  · rw [eg_sgi0 (by omega)]
    exact (eg_sgi0 (a := fun _ => 0) (n := 6) (f := fun _ => nI (L / 2)) (j := c) (by omega)).symm
  · obtain rfl : j = 0 := by omega
    exact hr c hc _ (fun t => if_pos rfl)
  · exact hr c hc _ (fun t => if_pos rfl)
end
theorem i_vc0 (k0 : Int32) (k1 : Int32) (k2 : Int32) (k3 : Int32) : wpX_init (fun u => wpY_init (fun v => i_Rel 4 u v) k0 k1 k2 k3) k0 k1 k2 k3 := by
  obtain ⟨C, c1, c2, hC⟩ := eg_cp k0 (a := 1) (n := 6) (by omega) (by omega)
  obtain ⟨T, t1, t2, hT⟩ := eg_cp k1 (a := 1) (n := 6) (by omega) (by omega)
  obtain ⟨L, l1, l2, hL⟩ := eg_cp k2 (a := 1) (n := 60) (by omega) (by omega)
  obtain ⟨R, r1, r2, hR⟩ := eg_cp k3 (a := 4) (n := 24) (by omega) (by omega)
  have hI := eg_I0 c1 c2 t1 t2 l1 l2 r1 r2
  have HY := eg_yi235 (post := fun v => i_Rel 4 (0, 1, 2, 0, 1, 2, 0, 1, nI C, nI T, nI L, nI R, 0, 0, 1, 0, eg_sg (fun _ => 0) 0 12 (fun _ => nI (L / 2)), fun _ => 0, fun _ => 0, fun _ => 0, fun _ => 0, fun _ => 0, fun _ => 0, fun _ => 0) v) (ek := fun _ => 0) (es := fun _ => 0) (nt := fun _ => 0) (bV := fun _ => 0) (bS := fun _ => 0) (bN := fun _ => 0) (ac := fun _ => 0) (aN := fun _ => 0) (yl := fun _ => 0) (ym := fun _ => 0) (nV := fun _ => 0) (nS := fun _ => 0) (nN := fun _ => 0) (C := C) (T := T) (R := R) l2 (eg_ii (z := 0) (kp := 0) (lf := 0) hI) 6 0 rfl
  rw [eg_sg0] at HY
  have HX := eg_xi161 (post := fun u => wpY_init (fun v => i_Rel 4 u v) k0 k1 k2 k3) (va := fun _ => 0) (st := fun _ => 0) (ne := fun _ => 0) (gl := fun _ => 0) (gm := fun _ => 0) (ek := fun _ => 0) (es := fun _ => 0) (en := fun _ => 0) (C := C) (T := T) (R := R) l2 (eg_yi hC (eg_yi151 hT (eg_yi176 hL (eg_yi201 hR ⟨7, HY⟩)))) 12 0 rfl
  rw [eg_sg0] at HX
  unfold wpX_init
  exact eg_xclq (a := 1) (n := 6) hC (eg_xclq (a := 1) (n := 6) hT (eg_xclq (a := 1) (n := 60) hL (eg_xclq (a := 4) (n := 24) hR ⟨13, HX⟩)))
end
