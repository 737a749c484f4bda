section
/-! rows of the kit, pasted -/
theorem pk_us {f : Nat → Int32} {k : Nat} {x : Int32} : upd f k x k = x := if_pos rfl
theorem pk_un {f : Nat → Int32} {k j : Nat} {x : Int32} (h : j ≠ k) : upd f k x j = f j := if_neg h
theorem pk_sub {a b : Nat} (h : b ≤ a) : nI a - nI b = nI (a - b) := by
  obtain ⟨c, rfl⟩ : ∃ c, a = c + b := ⟨a - b, by omega⟩
  rw [← nI_add, Int32.add_sub_cancel, Nat.add_sub_cancel]
theorem pk_m1 (n : Nat) : nI (n + 1) + (-1) = nI n := by
  rw [← nI_1, Int32.add_assoc, show (1 : Int32) + (-1) = 0 from rfl, Int32.add_zero]
theorem pk_mul (a b : Nat) : nI a * nI b = nI (a * b) := (Int32.ofNat_mul a b).symm
theorem pk_div {a d : Nat} (ha : a < 2 ^ 31) (h0 : 0 < d) (hd : d < 2 ^ 31) : nI a / nI d = nI (a / d) := by
  apply Int32.toInt_inj.mp
  rw [lg_idiv_nonneg (by rw [nI_toInt ha]; omega) (by rw [nI_toInt hd]; omega), nI_toInt ha, nI_toInt hd, nI_toInt (Nat.lt_of_le_of_lt (Nat.div_le_self a d) ha)]
  first | rfl | exact (Int.natCast_ediv _ _).symm
theorem pk_rem {a d : Nat} (ha : a < 2 ^ 31) (h0 : 0 < d) (hd : d < 2 ^ 31) : nI a - nI a / nI d * nI d = nI (a % d) := by
  rw [pk_div ha h0 hd, pk_mul, pk_sub (Nat.div_mul_le_self a d)]
  exact congrArg nI (by have := Nat.div_add_mod' a d; omega)
theorem pk_sub_toInt {a b : Nat} (ha : a < 2 ^ 30) (hb : b < 2 ^ 30) : (nI a - nI b).toInt = (a : Int) - b := by
  rw [Int32.toInt_sub, nI_toInt (by omega), nI_toInt (by omega)]
  exact Int.bmod_eq_of_le (by omega) (by omega)
theorem pk_sneg {a b : Nat} (hb : b < 2 ^ 30) (h : a < b) : nI a - nI b < 0 := by
  rw [Int32.lt_iff_toInt_lt, pk_sub_toInt (by omega) hb, show (0 : Int32).toInt = 0 from by decide]
  omega
theorem pk_ix (x : Int32) {n : Nat} (hn : n < 2 ^ 31) : x < 0 ∨ nI n ≤ x ∨ ∃ j : Nat, j < n ∧ x = nI j := by
  by_cases h : x < 0
  · exact Or.inl h
  · obtain ⟨j, hj, rfl⟩ := nI_of h
    by_cases h2 : j < n
    · exact Or.inr (Or.inr ⟨j, h2, rfl⟩)
    · exact Or.inr (Or.inl (nI_le (by omega) hj))
theorem pk_le {x y : Int32} {A B : Prop} (a b : Nat) (f : a ≤ b → A) (g : b < a → B) (hx : x = nI a := by rfl) (hy : y = nI b := by rfl) (ha : a < 2 ^ 31 := by omega) (hb : b < 2 ^ 31 := by omega) : (x ≤ y → A) ∧ (¬ x ≤ y → B) := by
  subst hx hy
  rw [nI_leI ha hb]
  exact ⟨f, fun z => g (by omega)⟩
theorem pk_lt {x y : Int32} {A B : Prop} (a b : Nat) (f : a < b → A) (g : b ≤ a → B) (hx : x = nI a := by rfl) (hy : y = nI b := by rfl) (ha : a < 2 ^ 31 := by omega) (hb : b < 2 ^ 31 := by omega) : (x < y → A) ∧ (¬ x < y → B) := by
  subst hx hy
  rw [nI_ltI ha hb]
  exact ⟨f, fun z => g (by omega)⟩
theorem pk_eq {x y : Int32} {A B : Prop} (a b : Nat) (f : a = b → A) (g : a ≠ b → B) (hx : x = nI a := by rfl) (hy : y = nI b := by rfl) (ha : a < 2 ^ 31 := by omega) (hb : b < 2 ^ 31 := by omega) : (x = y → A) ∧ (¬ x = y → B) := by
  subst hx hy
  rw [nI_eq ha hb]
  exact ⟨f, g⟩
theorem pk_in {x : Int32} (n N : Nat) (h : n < N) (hx : x = nI n := by rfl) (hN : N < 2 ^ 31 := by omega) : vp_in x N := by
  subst hx
  exact vp_in_nI h hN
theorem pk_cl {x : Int32} (n : Nat) (hx : x = nI n := by rfl) (h : n < 2 ^ 31 := by omega) : x.toNatClampNeg = n := by
  subst hx
  exact nI_clamp h
theorem pk_tn {n : Nat} (h : n < 2 ^ 32) : (nI n).toBitVec.toNat = n := Nat.mod_eq_of_lt h
theorem pk_and (x : Int32) {m : Int32} (k : Nat) (hm : m.toBitVec.toNat = 2 ^ k - 1) : x &&& m = nI (x.toBitVec.toNat % 2 ^ k) := by
  apply Int32.toBitVec_inj.mp
  apply BitVec.eq_of_toNat_eq
  rw [Int32.toBitVec_and, BitVec.toNat_and, hm, Nat.and_two_pow_sub_one_eq_mod]
  show _ = (BitVec.ofNat 32 _).toNat
  rw [BitVec.toNat_ofNat]
  exact (Nat.mod_eq_of_lt (Nat.lt_of_le_of_lt (Nat.mod_le _ _) x.toBitVec.isLt)).symm
theorem pk_andN {n : Nat} (h : n < 2 ^ 32) {m : Int32} (k : Nat) (hm : m.toBitVec.toNat = 2 ^ k - 1) : nI n &&& m = nI (n % 2 ^ k) := by
  rw [pk_and _ k hm, pk_tn h]
theorem pk_shl (a s : Int32) (k : Nat) (hs : (s.toBitVec.smod 32).toNat = k) : (a <<< s).toBitVec.toNat = a.toBitVec.toNat * 2 ^ k % 2 ^ 32 := by
  show (a.toBitVec <<< (s.toBitVec.smod 32).toNat).toNat = _
  rw [hs, BitVec.toNat_shiftLeft, Nat.shiftLeft_eq]
theorem pk_shlN {n : Nat} (s : Int32) (k : Nat) (hs : (s.toBitVec.smod 32).toNat = k) (h : n * 2 ^ k < 2 ^ 32) : nI n <<< s = nI (n * 2 ^ k) := by
  apply Int32.toBitVec_inj.mp
  apply BitVec.eq_of_toNat_eq
  have hn : n < 2 ^ 32 := Nat.lt_of_le_of_lt (Nat.le_mul_of_pos_right n (Nat.two_pow_pos k)) h
  rw [pk_shl _ _ k hs, pk_tn hn, pk_tn h, Nat.mod_eq_of_lt h]
theorem pk_shr (a s : Int32) (k : Nat) (hs : (s.toBitVec.smod 32).toNat = k) : (a >>> s).toInt = a.toInt >>> k := by
  show (a.toBitVec.sshiftRight (s.toBitVec.smod 32).toNat).toInt = _
  rw [hs, BitVec.toInt_sshiftRight]
  rfl
theorem pk_shrN {n : Nat} (h : n < 2 ^ 31) (s : Int32) (k : Nat) (hs : (s.toBitVec.smod 32).toNat = k) : nI n >>> s = nI (n / 2 ^ k) := by
  apply Int32.toInt_inj.mp
  have h2 : n / 2 ^ k ≤ n := Nat.div_le_self _ _
  rw [pk_shr _ _ k hs, nI_toInt h, nI_toInt (by omega), Int.shiftRight_eq_div_pow]
  rfl
theorem pk_nb (z : Int32) : narrow .byte (.int z.toInt8.toInt32) = .int z.toInt8.toInt32 := congrArg Value.int (by simp)
theorem pk_ns (z : Int32) : narrow .short (.int z.toInt16.toInt32) = .int z.toInt16.toInt32 := congrArg Value.int (by simp)
theorem pk_fb (r : Int32) : fits .byte (.int r.toInt8.toInt32) = true := by
  have ⟨a, b⟩ := lg_i2b_range r
  have h1 : (-128 : Int32).toInt = -128 := by decide
  have h2 : (127 : Int32).toInt = 127 := by decide
  simp only [fits, Bool.and_eq_true, decide_eq_true_eq, Int32.le_iff_toInt_le, h1, h2]
  omega
theorem pk_fs (r : Int32) : fits .short (.int r.toInt16.toInt32) = true := by
  have ⟨a, b⟩ := lg_i2s_range r
  have h1 : (-32768 : Int32).toInt = -32768 := by decide
  have h2 : (32767 : Int32).toInt = 32767 := by decide
  simp only [fits, Bool.and_eq_true, decide_eq_true_eq, Int32.le_iff_toInt_le, h1, h2]
  omega
theorem pk_vb (z : Int32) : vp_nar .byte z.toInt8.toInt32 = z.toInt8.toInt32 := by rw [vp_nar_byte]; simp
theorem pk_vs (z : Int32) : vp_nar .short z.toInt16.toInt32 = z.toInt16.toInt32 := by rw [vp_nar_short]; simp
theorem pk_least (P : Nat → Prop) (h : ∃ k, P k) : ∃ k, P k ∧ ∀ j, j < k → ¬ P j := by
  obtain ⟨k, hk⟩ := h
  induction k using Nat.strongRecOn with
  | ind k ih =>
    by_cases e : ∃ j, j < k ∧ P j
    · obtain ⟨j, hj, pj⟩ := e
      exact ih j hj pj
    · exact ⟨k, hk, fun j hj pj => e ⟨j, hj, pj⟩⟩
end
section
/-! the meaning of a grammar: outcome (0 not known, 1 fails, j + 2 ends at j), the place behind the last letter looked at, steps, the rules that took part -/
abbrev pg_R : Type := Nat × Nat × Nat × List (Nat × Nat)
def pg_B : pg_R := (0, 0, 0, [])
def pg_le (g : Bool) (i : Nat) : pg_R := if g = true then (i + 3, i + 1, 1, []) else (1, i + 1, 1, [])
def pg_sq (a : pg_R) (f : Nat → pg_R) : pg_R := match a with
  | (0, _, _, _) => pg_B
  | (1, w, k, _) => (1, w, k, [])
  | (j + 2, w, k, p) => ((f j).1, max w (f j).2.1, k + (f j).2.2.1, p ++ (f j).2.2.2)
def pg_ch (a b : pg_R) : pg_R := match a with
  | (0, _, _, _) => pg_B
  | (1, w, k, _) => (b.1, max w b.2.1, 1 + k + b.2.2.1, b.2.2.2)
  | (j + 2, w, k, p) => (j + 2, w, 2 + k, p)
def pg_ag (i : Nat) (a : pg_R) (f : Nat → pg_R) : pg_R := match a with
  | (0, _, _, _) => pg_B
  | (1, w, k, _) => (i + 2, w, k, [])
  | (j + 2, w, k, p) => if j = i then (i + 2, w, k + 1, p) else ((f j).1, max w (f j).2.1, k + 1 + (f j).2.2.1, p ++ (f j).2.2.2)
def pg_st (b : pg_R) : pg_R := (b.1, b.2.1, b.2.2.1 + 1, b.2.2.2)
def pg_pl (i : Nat) (a : pg_R) (f : Nat → pg_R) : pg_R := match a with
  | (0, _, _, _) => pg_B
  | (1, w, k, _) => (1, w, k + 2, [])
  | (j + 2, w, k, p) => if j = i then ((f j).1, w, k + 2, p) else ((f j).1, max w (f j).2.1, k + 2 + (f j).2.2.1, p ++ (f j).2.2.2)
def pg_op (i : Nat) (a : pg_R) : pg_R := match a with
  | (0, _, _, _) => pg_B
  | (1, w, k, _) => (i + 2, w, k + 1, [])
  | (j + 2, w, k, p) => (j + 2, w, k + 2, p)
def pg_an (i : Nat) (a : pg_R) : pg_R := match a with
  | (0, _, _, _) => pg_B
  | (1, w, k, _) => (1, w, k + 2, [])
  | (_ + 2, w, k, _) => (i + 2, w, k + 2, [])
def pg_nt (i : Nat) (a : pg_R) : pg_R := match a with
  | (0, _, _, _) => pg_B
  | (1, w, k, _) => (i + 2, w, k + 1, [])
  | (_ + 2, w, k, _) => (1, w, k + 2, [])
def pg_ca (q : Nat) (a : pg_R) : pg_R := match a with
  | (0, _, _, _) => pg_B
  | (1, w, _, _) => (1, w, 1, [])
  | (j + 2, w, _, _) => (j + 2, w, 1, [(q, j)])
def pg_gd (tk : Nat → Nat) (x e : Nat) : Bool := if tk e = 1 then decide (0 < x) else if tk e = 3 then decide (tk (e + 1) ≤ x ∧ x ≤ tk (e + 2)) else decide (x = tk e)
def pg_D (tk nx ln c : Nat → Nat) (D A : Nat → Nat → pg_R) (e i : Nat) : pg_R :=
  if tk e = 2 then (i + 2, i, 0, [])
  else if tk e = 10 then pg_sq (D (e + 1) i) (fun j => D (nx (e + 1)) j)
  else if tk e = 11 then pg_ch (D (e + 1) i) (D (nx (e + 1)) i)
  else if tk e = 12 then pg_st (A e i)
  else if tk e = 13 then pg_pl i (D (e + 1) i) (fun j => A e j)
  else if tk e = 14 then pg_op i (D (e + 1) i)
  else if tk e = 15 then pg_an i (D (e + 1) i)
  else if tk e = 16 then pg_nt i (D (e + 1) i)
  else if 20 ≤ tk e ∧ tk e ≤ 23 then (if ln (tk e - 20) = 0 then (1, i, 1, []) else pg_ca (17 * (tk e - 20) + i) (D (12 * (tk e - 20)) i))
  else pg_le (pg_gd tk (c i) e) i
def pg_A (D A : Nat → Nat → pg_R) (e i : Nat) : pg_R := pg_ag i (D (e + 1) i) (fun j => A e j)
def pg_ev (tk nx ln c : Nat → Nat) : Nat → (Nat → Nat → pg_R) × (Nat → Nat → pg_R)
  | 0 => (fun _ _ => pg_B, fun _ _ => pg_B)
  | n + 1 => (fun e i => pg_D tk nx ln c (pg_ev tk nx ln c n).1 (pg_ev tk nx ln c n).2 e i, fun e i => pg_A (pg_ev tk nx ln c n).1 (pg_ev tk nx ln c n).2 e i)
section
variable {tk nx ln c : Nat → Nat} {D A D' A' : Nat → Nat → pg_R} {e i : Nat}
theorem pg_D_2 (h : tk e = 2) : pg_D tk nx ln c D A e i = (i + 2, i, 0, []) := by unfold pg_D; rw [if_pos h]
theorem pg_D_10 (h : tk e = 10) : pg_D tk nx ln c D A e i = pg_sq (D (e + 1) i) (fun j => D (nx (e + 1)) j) := by
  unfold pg_D; rw [if_neg (by omega), if_pos h]
theorem pg_D_11 (h : tk e = 11) : pg_D tk nx ln c D A e i = pg_ch (D (e + 1) i) (D (nx (e + 1)) i) := by
  unfold pg_D; rw [if_neg (by omega), if_neg (by omega), if_pos h]
theorem pg_D_12 (h : tk e = 12) : pg_D tk nx ln c D A e i = pg_st (A e i) := by
  unfold pg_D; rw [if_neg (by omega), if_neg (by omega), if_neg (by omega), if_pos h]
theorem pg_D_13 (h : tk e = 13) : pg_D tk nx ln c D A e i = pg_pl i (D (e + 1) i) (fun j => A e j) := by
  unfold pg_D; rw [if_neg (by omega), if_neg (by omega), if_neg (by omega), if_neg (by omega), if_pos h]
theorem pg_D_14 (h : tk e = 14) : pg_D tk nx ln c D A e i = pg_op i (D (e + 1) i) := by
  unfold pg_D; rw [if_neg (by omega), if_neg (by omega), if_neg (by omega), if_neg (by omega), if_neg (by omega), if_pos h]
theorem pg_D_15 (h : tk e = 15) : pg_D tk nx ln c D A e i = pg_an i (D (e + 1) i) := by
  unfold pg_D; rw [if_neg (by omega), if_neg (by omega), if_neg (by omega), if_neg (by omega), if_neg (by omega), if_neg (by omega), if_pos h]
theorem pg_D_16 (h : tk e = 16) : pg_D tk nx ln c D A e i = pg_nt i (D (e + 1) i) := by
  unfold pg_D; rw [if_neg (by omega), if_neg (by omega), if_neg (by omega), if_neg (by omega), if_neg (by omega), if_neg (by omega), if_neg (by omega), if_pos h]
theorem pg_D_c {r : Nat} (hr : r < 4) (h : tk e = 20 + r) : pg_D tk nx ln c D A e i = if ln r = 0 then (1, i, 1, []) else pg_ca (17 * r + i) (D (12 * r) i) := by
  have hh : tk e - 20 = r := by omega
  unfold pg_D; rw [if_neg (by omega), if_neg (by omega), if_neg (by omega), if_neg (by omega), if_neg (by omega), if_neg (by omega), if_neg (by omega), if_neg (by omega), if_pos (by omega), hh]
theorem pg_D_l (h : tk e = 1 ∨ tk e = 3 ∨ 24 ≤ tk e) : pg_D tk nx ln c D A e i = pg_le (pg_gd tk (c i) e) i := by
  unfold pg_D; rw [if_neg (by omega), if_neg (by omega), if_neg (by omega), if_neg (by omega), if_neg (by omega), if_neg (by omega), if_neg (by omega), if_neg (by omega), if_neg (by omega)]
theorem pg_cs {t : Nat} : t = 2 ∨ t = 10 ∨ t = 11 ∨ t = 12 ∨ t = 13 ∨ t = 14 ∨ t = 15 ∨ t = 16 ∨ (∃ r, r < 4 ∧ t = 20 + r) ∨ (t = 1 ∨ t = 3 ∨ 24 ≤ t) ∨ t = 0 ∨ (4 ≤ t ∧ t ≤ 9) ∨ (17 ≤ t ∧ t ≤ 19) := by
  by_cases h : 20 ≤ t ∧ t ≤ 23
  · exact Or.inr (Or.inr (Or.inr (Or.inr (Or.inr (Or.inr (Or.inr (Or.inr (Or.inl ⟨t - 20, by omega, by omega⟩))))))))
  · omega
theorem pg_D_x (h : tk e = 0 ∨ (4 ≤ tk e ∧ tk e ≤ 9) ∨ (17 ≤ tk e ∧ tk e ≤ 19)) : pg_D tk nx ln c D A e i = pg_le (pg_gd tk (c i) e) i := by
  unfold pg_D; rw [if_neg (by omega), if_neg (by omega), if_neg (by omega), if_neg (by omega), if_neg (by omega), if_neg (by omega), if_neg (by omega), if_neg (by omega), if_neg (by omega)]
/-! monotone -/
theorem pg_sq_m {a a' : pg_R} {f f' : Nat → pg_R} (ha : a.1 ≠ 0 → a' = a) (hf : ∀ j, a.1 = j + 2 → (f j).1 ≠ 0 → f' j = f j) (h : (pg_sq a f).1 ≠ 0) : pg_sq a' f' = pg_sq a f := by
  rcases a with ⟨_ | _ | j, w, k, p⟩
  · exact absurd rfl h
  · rw [ha (by simp)]; rfl
  · rw [ha (by simp)]
    have := hf j rfl h
    show ((f' j).1, max w (f' j).2.1, k + (f' j).2.2.1, p ++ (f' j).2.2.2) = _
    rw [this]; rfl
theorem pg_ch_m {a a' b b' : pg_R} (ha : a.1 ≠ 0 → a' = a) (hb : b.1 ≠ 0 → b' = b) (h : (pg_ch a b).1 ≠ 0) : pg_ch a' b' = pg_ch a b := by
  rcases a with ⟨_ | _ | j, w, k, p⟩
  · exact absurd rfl h
  · rw [ha (by simp), hb h]
  · rw [ha (by simp)]; rfl
theorem pg_ag_m {a a' : pg_R} {f f' : Nat → pg_R} (ha : a.1 ≠ 0 → a' = a) (hf : ∀ j, a.1 = j + 2 → (f j).1 ≠ 0 → f' j = f j) (h : (pg_ag i a f).1 ≠ 0) : pg_ag i a' f' = pg_ag i a f := by
  rcases a with ⟨_ | _ | j, w, k, p⟩
  · exact absurd rfl h
  · rw [ha (by simp)]; rfl
  · rw [ha (by simp)]
    by_cases hj : j = i
    · simp only [pg_ag, if_pos hj]
    · have h' : (f j).1 ≠ 0 := by simpa only [pg_ag, if_neg hj] using h
      simp only [pg_ag, if_neg hj, hf j rfl h']
theorem pg_pl_m {a a' : pg_R} {f f' : Nat → pg_R} (ha : a.1 ≠ 0 → a' = a) (hf : ∀ j, a.1 = j + 2 → (f j).1 ≠ 0 → f' j = f j) (h : (pg_pl i a f).1 ≠ 0) : pg_pl i a' f' = pg_pl i a f := by
  rcases a with ⟨_ | _ | j, w, k, p⟩
  · exact absurd rfl h
  · rw [ha (by simp)]; rfl
  · rw [ha (by simp)]
    by_cases hj : j = i
    · have h' : (f j).1 ≠ 0 := by simpa only [pg_pl, if_pos hj] using h
      simp only [pg_pl, if_pos hj, hf j rfl h']
    · have h' : (f j).1 ≠ 0 := by simpa only [pg_pl, if_neg hj] using h
      simp only [pg_pl, if_neg hj, hf j rfl h']
theorem pg_u_m {g : pg_R → pg_R} {a a' : pg_R} (hg : ∀ w k p, (g (0, w, k, p)).1 = 0) (ha : a.1 ≠ 0 → a' = a) (h : (g a).1 ≠ 0) : g a' = g a := by
  rcases a with ⟨_ | o, w, k, p⟩
  · exact absurd (hg w k p) h
  · rw [ha (by simp)]
theorem pg_D_m (h1 : (D (e + 1) i).1 ≠ 0 → D' (e + 1) i = D (e + 1) i)
    (h2 : ∀ j, (D (e + 1) i).1 = j + 2 → (D (nx (e + 1)) j).1 ≠ 0 → D' (nx (e + 1)) j = D (nx (e + 1)) j)
    (h3 : (D (nx (e + 1)) i).1 ≠ 0 → D' (nx (e + 1)) i = D (nx (e + 1)) i)
    (h4 : ∀ r, r < 4 → tk e = 20 + r → (D (12 * r) i).1 ≠ 0 → D' (12 * r) i = D (12 * r) i)
    (h5 : (A e i).1 ≠ 0 → A' e i = A e i)
    (h6 : ∀ j, (D (e + 1) i).1 = j + 2 → (A e j).1 ≠ 0 → A' e j = A e j)
    (h : (pg_D tk nx ln c D A e i).1 ≠ 0) : pg_D tk nx ln c D' A' e i = pg_D tk nx ln c D A e i := by
  rcases pg_cs (t := tk e) with t | t | t | t | t | t | t | t | ⟨r, hr, t⟩ | t | t
  · rw [pg_D_2 t, pg_D_2 t]
  · rw [pg_D_10 t] at h; rw [pg_D_10 t, pg_D_10 t]; exact pg_sq_m h1 h2 h
  · rw [pg_D_11 t] at h; rw [pg_D_11 t, pg_D_11 t]; exact pg_ch_m h1 h3 h
  · rw [pg_D_12 t] at h; rw [pg_D_12 t, pg_D_12 t]; exact pg_u_m (fun _ _ _ => rfl) h5 h
  · rw [pg_D_13 t] at h; rw [pg_D_13 t, pg_D_13 t]; exact pg_pl_m h1 h6 h
  · rw [pg_D_14 t] at h; rw [pg_D_14 t, pg_D_14 t]; exact pg_u_m (g := pg_op i) (fun _ _ _ => rfl) h1 h
  · rw [pg_D_15 t] at h; rw [pg_D_15 t, pg_D_15 t]; exact pg_u_m (g := pg_an i) (fun _ _ _ => rfl) h1 h
  · rw [pg_D_16 t] at h; rw [pg_D_16 t, pg_D_16 t]; exact pg_u_m (g := pg_nt i) (fun _ _ _ => rfl) h1 h
  · rw [pg_D_c hr t] at h; rw [pg_D_c hr t, pg_D_c hr t]
    by_cases hl : ln r = 0
    · rw [if_pos hl, if_pos hl]
    · rw [if_neg hl] at h; rw [if_neg hl, if_neg hl]; exact pg_u_m (g := pg_ca (17 * r + i)) (fun _ _ _ => rfl) (h4 r hr t) h
  · rw [pg_D_l t, pg_D_l t]
  · rw [pg_D_x t, pg_D_x t]
theorem pg_A_m (h1 : (D (e + 1) i).1 ≠ 0 → D' (e + 1) i = D (e + 1) i)
    (h6 : ∀ j, (D (e + 1) i).1 = j + 2 → (A e j).1 ≠ 0 → A' e j = A e j)
    (h : (pg_A D A e i).1 ≠ 0) : pg_A D' A' e i = pg_A D A e i := pg_ag_m h1 h6 h
/-! the outcome depends on outcomes alone -/
def pg_er (D : Nat → Nat → pg_R) : Nat → Nat → pg_R := fun e i => ((D e i).1, 0, 0, [])
theorem pg_D_er : (pg_D tk nx ln c D A e i).1 = (pg_D tk nx ln c (pg_er D) (pg_er A) e i).1 := by
  rcases pg_cs (t := tk e) with t | t | t | t | t | t | t | t | ⟨r, hr, t⟩ | t | t
  · rw [pg_D_2 t, pg_D_2 t]
  · rw [pg_D_10 t, pg_D_10 t]; unfold pg_er; rcases D (e + 1) i with ⟨_ | _ | j, w, k, p⟩ <;> rfl
  · rw [pg_D_11 t, pg_D_11 t]; unfold pg_er; rcases D (e + 1) i with ⟨_ | _ | j, w, k, p⟩ <;> rfl
  · rw [pg_D_12 t, pg_D_12 t]; rfl
  · rw [pg_D_13 t, pg_D_13 t]; unfold pg_er
    rcases D (e + 1) i with ⟨_ | _ | j, w, k, p⟩
    · rfl
    · rfl
    · by_cases hj : j = i
      · simp only [pg_pl, if_pos hj]
      · simp only [pg_pl, if_neg hj]
  · rw [pg_D_14 t, pg_D_14 t]; unfold pg_er; rcases D (e + 1) i with ⟨_ | _ | j, w, k, p⟩ <;> rfl
  · rw [pg_D_15 t, pg_D_15 t]; unfold pg_er; rcases D (e + 1) i with ⟨_ | _ | j, w, k, p⟩ <;> rfl
  · rw [pg_D_16 t, pg_D_16 t]; unfold pg_er; rcases D (e + 1) i with ⟨_ | _ | j, w, k, p⟩ <;> rfl
  · rw [pg_D_c hr t, pg_D_c hr t]; unfold pg_er
    by_cases hl : ln r = 0
    · rw [if_pos hl, if_pos hl]
    · rw [if_neg hl, if_neg hl]; rcases D (12 * r) i with ⟨_ | _ | j, w, k, p⟩ <;> rfl
  · rw [pg_D_l t, pg_D_l t]
  · rw [pg_D_x t, pg_D_x t]
theorem pg_A_er : (pg_A D A e i).1 = (pg_A (pg_er D) (pg_er A) e i).1 := by
  unfold pg_A pg_er
  rcases D (e + 1) i with ⟨_ | _ | j, w, k, p⟩
  · rfl
  · rfl
  · by_cases hj : j = i
    · simp only [pg_ag, if_pos hj]
    · simp only [pg_ag, if_neg hj]
end
/-! the ranks -/
section
variable {tk nx ln c : Nat → Nat}
theorem pg_ev_s (n : Nat) : ∀ e i : Nat, (((pg_ev tk nx ln c n).1 e i).1 ≠ 0 → (pg_ev tk nx ln c (n + 1)).1 e i = (pg_ev tk nx ln c n).1 e i) ∧ (((pg_ev tk nx ln c n).2 e i).1 ≠ 0 → (pg_ev tk nx ln c (n + 1)).2 e i = (pg_ev tk nx ln c n).2 e i) := by
  induction n with
  | zero => exact fun e i => ⟨fun h => absurd rfl h, fun h => absurd rfl h⟩
  | succ n ih =>
    intro e i
    refine ⟨fun h => ?_, fun h => ?_⟩
    · exact pg_D_m (fun z => (ih _ _).1 z) (fun j _ z => (ih _ _).1 z) (fun z => (ih _ _).1 z) (fun r _ _ z => (ih _ _).1 z) (fun z => (ih _ _).2 z) (fun j _ z => (ih _ _).2 z) h
    · exact pg_A_m (fun z => (ih _ _).1 z) (fun j _ z => (ih _ _).2 z) h
theorem pg_ev_D {n m : Nat} (hm : n ≤ m) {e i : Nat} (h : ((pg_ev tk nx ln c n).1 e i).1 ≠ 0) : (pg_ev tk nx ln c m).1 e i = (pg_ev tk nx ln c n).1 e i := by
  induction hm with
  | refl => rfl
  | step _ ih => rw [((pg_ev_s _ e i).1 (by rw [ih]; exact h)), ih]
theorem pg_ev_A {n m : Nat} (hm : n ≤ m) {e i : Nat} (h : ((pg_ev tk nx ln c n).2 e i).1 ≠ 0) : (pg_ev tk nx ln c m).2 e i = (pg_ev tk nx ln c n).2 e i := by
  induction hm with
  | refl => rfl
  | step _ ih => rw [((pg_ev_s _ e i).2 (by rw [ih]; exact h)), ih]
theorem pg_ev_u {n m e i : Nat} (h : ((pg_ev tk nx ln c n).1 e i).1 ≠ 0) (h' : ((pg_ev tk nx ln c m).1 e i).1 ≠ 0) : (pg_ev tk nx ln c m).1 e i = (pg_ev tk nx ln c n).1 e i := by
  rcases Nat.le_total n m with z | z
  · exact pg_ev_D z h
  · exact (pg_ev_D z h').symm
theorem pg_ev_least {n e i : Nat} (h : ((pg_ev tk nx ln c n).1 e i).1 ≠ 0) : ∃ m, m < n ∧ (pg_ev tk nx ln c (m + 1)).1 e i = (pg_ev tk nx ln c n).1 e i ∧ ((pg_ev tk nx ln c m).1 e i).1 = 0 := by
  induction n with
  | zero => exact absurd rfl h
  | succ n ih =>
    by_cases z : ((pg_ev tk nx ln c n).1 e i).1 = 0
    · exact ⟨n, Nat.lt_succ_self n, rfl, z⟩
    · obtain ⟨m, hm, a, b⟩ := ih z
      exact ⟨m, by omega, a.trans ((pg_ev_s n e i).1 z).symm, b⟩
/-! the limit -/
noncomputable def pg_lD (tk nx ln c : Nat → Nat) (e i : Nat) : pg_R := by
  classical exact if h : ∃ n, ((pg_ev tk nx ln c n).1 e i).1 ≠ 0 then (pg_ev tk nx ln c h.choose).1 e i else pg_B
noncomputable def pg_lA (tk nx ln c : Nat → Nat) (e i : Nat) : pg_R := by
  classical exact if h : ∃ n, ((pg_ev tk nx ln c n).2 e i).1 ≠ 0 then (pg_ev tk nx ln c h.choose).2 e i else pg_B
theorem pg_lD_of {n e i : Nat} (h : ((pg_ev tk nx ln c n).1 e i).1 ≠ 0) : pg_lD tk nx ln c e i = (pg_ev tk nx ln c n).1 e i := by
  have z : ∃ n, ((pg_ev tk nx ln c n).1 e i).1 ≠ 0 := ⟨n, h⟩
  unfold pg_lD
  rw [dif_pos z]
  exact pg_ev_u h z.choose_spec
theorem pg_lA_of {n e i : Nat} (h : ((pg_ev tk nx ln c n).2 e i).1 ≠ 0) : pg_lA tk nx ln c e i = (pg_ev tk nx ln c n).2 e i := by
  have z : ∃ n, ((pg_ev tk nx ln c n).2 e i).1 ≠ 0 := ⟨n, h⟩
  unfold pg_lA
  rw [dif_pos z]
  rcases Nat.le_total n z.choose with y | y
  · exact pg_ev_A y h
  · exact (pg_ev_A y z.choose_spec).symm
theorem pg_lD_ex {e i : Nat} (h : (pg_lD tk nx ln c e i).1 ≠ 0) : ∃ n, (pg_ev tk nx ln c n).1 e i = pg_lD tk nx ln c e i := by
  by_cases z : ∃ n, ((pg_ev tk nx ln c n).1 e i).1 ≠ 0
  · obtain ⟨n, hn⟩ := z
    exact ⟨n, (pg_lD_of hn).symm⟩
  · exact absurd (by unfold pg_lD; rw [dif_neg z]; rfl) h
theorem pg_lA_ex {e i : Nat} (h : (pg_lA tk nx ln c e i).1 ≠ 0) : ∃ n, (pg_ev tk nx ln c n).2 e i = pg_lA tk nx ln c e i := by
  by_cases z : ∃ n, ((pg_ev tk nx ln c n).2 e i).1 ≠ 0
  · obtain ⟨n, hn⟩ := z
    exact ⟨n, (pg_lA_of hn).symm⟩
  · exact absurd (by unfold pg_lA; rw [dif_neg z]; rfl) h
theorem pg_lD_at (e i : Nat) : ∃ n, ∀ m, n ≤ m → (pg_lD tk nx ln c e i).1 ≠ 0 → (pg_ev tk nx ln c m).1 e i = pg_lD tk nx ln c e i := by
  by_cases z : (pg_lD tk nx ln c e i).1 = 0
  · exact ⟨0, fun _ _ h => absurd z h⟩
  · obtain ⟨n, hn⟩ := pg_lD_ex z
    exact ⟨n, fun m hm _ => (pg_ev_D hm (by rw [hn]; exact z)).trans hn⟩
theorem pg_lA_at (e i : Nat) : ∃ n, ∀ m, n ≤ m → (pg_lA tk nx ln c e i).1 ≠ 0 → (pg_ev tk nx ln c m).2 e i = pg_lA tk nx ln c e i := by
  by_cases z : (pg_lA tk nx ln c e i).1 = 0
  · exact ⟨0, fun _ _ h => absurd z h⟩
  · obtain ⟨n, hn⟩ := pg_lA_ex z
    exact ⟨n, fun m hm _ => (pg_ev_A hm (by rw [hn]; exact z)).trans hn⟩
/-- what follows from the limit is in it -/
theorem pg_lD_fix {e i : Nat} (h : (pg_D tk nx ln c (pg_lD tk nx ln c) (pg_lA tk nx ln c) e i).1 ≠ 0) : pg_lD tk nx ln c e i = pg_D tk nx ln c (pg_lD tk nx ln c) (pg_lA tk nx ln c) e i := by
  obtain ⟨n1, h1⟩ := pg_lD_at (tk := tk) (nx := nx) (ln := ln) (c := c) (e + 1) i
  obtain ⟨n2, h2⟩ := pg_lD_at (tk := tk) (nx := nx) (ln := ln) (c := c) (nx (e + 1)) ((pg_lD tk nx ln c (e + 1) i).1 - 2)
  obtain ⟨n3, h3⟩ := pg_lD_at (tk := tk) (nx := nx) (ln := ln) (c := c) (nx (e + 1)) i
  obtain ⟨n4, h4⟩ := pg_lD_at (tk := tk) (nx := nx) (ln := ln) (c := c) (12 * (tk e - 20)) i
  obtain ⟨n5, h5⟩ := pg_lA_at (tk := tk) (nx := nx) (ln := ln) (c := c) e i
  obtain ⟨n6, h6⟩ := pg_lA_at (tk := tk) (nx := nx) (ln := ln) (c := c) e ((pg_lD tk nx ln c (e + 1) i).1 - 2)
  have key := pg_D_m (D' := (pg_ev tk nx ln c (n1 + n2 + n3 + n4 + n5 + n6)).1) (A' := (pg_ev tk nx ln c (n1 + n2 + n3 + n4 + n5 + n6)).2)
    (h1 _ (by omega)) (fun j hj => by rw [hj] at h2; exact h2 _ (by omega)) (h3 _ (by omega))
    (fun r _ hr => by rw [show tk e - 20 = r by omega] at h4; exact h4 _ (by omega)) (h5 _ (by omega))
    (fun j hj => by rw [hj] at h6; exact h6 _ (by omega)) h
  have key2 : (pg_ev tk nx ln c (n1 + n2 + n3 + n4 + n5 + n6 + 1)).1 e i = pg_D tk nx ln c (pg_lD tk nx ln c) (pg_lA tk nx ln c) e i := key
  rw [← key2]
  exact pg_lD_of (by rw [key2]; exact h)
theorem pg_lA_fix {e i : Nat} (h : (pg_A (pg_lD tk nx ln c) (pg_lA tk nx ln c) e i).1 ≠ 0) : pg_lA tk nx ln c e i = pg_A (pg_lD tk nx ln c) (pg_lA tk nx ln c) e i := by
  obtain ⟨n1, h1⟩ := pg_lD_at (tk := tk) (nx := nx) (ln := ln) (c := c) (e + 1) i
  obtain ⟨n6, h6⟩ := pg_lA_at (tk := tk) (nx := nx) (ln := ln) (c := c) e ((pg_lD tk nx ln c (e + 1) i).1 - 2)
  have key := pg_A_m (D' := (pg_ev tk nx ln c (n1 + n6)).1) (A' := (pg_ev tk nx ln c (n1 + n6)).2)
    (h1 _ (by omega)) (fun j hj => by rw [hj] at h6; exact h6 _ (by omega)) h
  have key2 : (pg_ev tk nx ln c (n1 + n6 + 1)).2 e i = pg_A (pg_lD tk nx ln c) (pg_lA tk nx ln c) e i := key
  rw [← key2]
  exact pg_lA_of (by rw [key2]; exact h)
end
end
section
/-! which cells hold an expression; places; what depends on which letters -/
def pg_tv (t : Nat) : Prop := (1 ≤ t ∧ t ≤ 3) ∨ (10 ≤ t ∧ t ≤ 16) ∨ (20 ≤ t ∧ t ≤ 23) ∨ (97 ≤ t ∧ t ≤ 122)
def pg_cl (tk nx : Nat → Nat) (to e : Nat) : Prop :=
  pg_tv (tk e) ∧ e < nx e ∧ nx e ≤ to ∧
  (tk e = 3 → nx e = e + 3 ∧ 97 ≤ tk (e + 1) ∧ tk (e + 1) ≤ 122 ∧ 97 ≤ tk (e + 2) ∧ tk (e + 2) ≤ 122) ∧
  ((tk e = 10 ∨ tk e = 11) → e + 1 < to ∧ 0 < nx (e + 1) ∧ nx (e + 1) < to ∧ 0 < nx (nx (e + 1)) ∧ nx e = nx (nx (e + 1))) ∧
  ((12 ≤ tk e ∧ tk e ≤ 16) → e + 1 < to ∧ 0 < nx (e + 1) ∧ nx e = nx (e + 1)) ∧
  ((tk e = 1 ∨ tk e = 2 ∨ 20 ≤ tk e) → nx e = e + 1)
def pg_G (tk nx ln : Nat → Nat) : Prop := ∀ r, r < 4 → ln r ≤ 12 ∧ (0 < ln r → nx (12 * r) = 12 * r + ln r) ∧ ∀ e, 12 * r ≤ e → e < 12 * r + ln r → 0 < nx e → pg_cl tk nx (12 * r + ln r) e
def pg_C (nx ln : Nat → Nat) (e : Nat) : Prop := ∃ r, r < 4 ∧ 12 * r ≤ e ∧ e < 12 * r + ln r ∧ 0 < nx e
section
variable {tk nx ln c : Nat → Nat} {e i N : Nat}
theorem pg_C_b (hG : pg_G tk nx ln) (h : pg_C nx ln e) (t : tk e = 10 ∨ tk e = 11) : pg_C nx ln (e + 1) ∧ pg_C nx ln (nx (e + 1)) ∧ e + 1 < nx (e + 1) ∧ nx (e + 1) < nx e ∧ nx (nx (e + 1)) = nx e := by
  obtain ⟨r, hr, a, b, d⟩ := h
  obtain ⟨_, _, h3⟩ := hG r hr
  obtain ⟨_, h5, h6, _, h7, _, _⟩ := h3 e a b d
  obtain ⟨g1, g2, g3, g4, g5⟩ := h7 t
  obtain ⟨_, k1, k2, _⟩ := h3 (e + 1) (by omega) g1 g2
  obtain ⟨_, k3, k4, _⟩ := h3 (nx (e + 1)) (by omega) g3 g4
  exact ⟨⟨r, hr, by omega, g1, g2⟩, ⟨r, hr, by omega, g3, g4⟩, k1, by omega, g5.symm⟩
theorem pg_C_u (hG : pg_G tk nx ln) (h : pg_C nx ln e) (t : 12 ≤ tk e ∧ tk e ≤ 16) : pg_C nx ln (e + 1) ∧ e + 1 < nx (e + 1) ∧ nx (e + 1) = nx e := by
  obtain ⟨r, hr, a, b, d⟩ := h
  obtain ⟨_, _, h3⟩ := hG r hr
  obtain ⟨_, h5, h6, _, _, h7, _⟩ := h3 e a b d
  obtain ⟨g1, g2, g3⟩ := h7 t
  obtain ⟨_, k1, k2, _⟩ := h3 (e + 1) (by omega) g1 g2
  exact ⟨⟨r, hr, by omega, g1, g2⟩, k1, g3.symm⟩
theorem pg_C_r (hG : pg_G tk nx ln) {r : Nat} (hr : r < 4) (h : ln r ≠ 0) : pg_C nx ln (12 * r) ∧ nx (12 * r) = 12 * r + ln r ∧ ln r ≤ 12 := by
  obtain ⟨h1, h2, h3⟩ := hG r hr
  exact ⟨⟨r, hr, by omega, by omega, by rw [h2 (by omega)]; omega⟩, h2 (by omega), h1⟩
theorem pg_C_v (hG : pg_G tk nx ln) (h : pg_C nx ln e) : pg_tv (tk e) ∧ e < nx e ∧ (tk e = 3 → nx e = e + 3 ∧ 97 ≤ tk (e + 1) ∧ tk (e + 1) ≤ 122 ∧ 97 ≤ tk (e + 2) ∧ tk (e + 2) ≤ 122) ∧ ((tk e = 1 ∨ tk e = 2 ∨ 20 ≤ tk e) → nx e = e + 1) := by
  obtain ⟨r, hr, a, b, d⟩ := h
  obtain ⟨_, _, h3⟩ := hG r hr
  obtain ⟨h4, h5, h6, h7, _, _, h8⟩ := h3 e a b d
  exact ⟨h4, h5, h7, h8⟩
theorem pg_C_s (hG : pg_G tk nx ln) (h : pg_C nx ln e) : e < 48 ∧ nx e ≤ 48 ∧ nx e ≤ e + 12 := by
  obtain ⟨r, hr, a, b, d⟩ := h
  obtain ⟨h1, _, h3⟩ := hG r hr
  obtain ⟨_, h5, h6, _⟩ := h3 e a b d
  omega
theorem pg_tc (h : pg_tv (tk e)) : tk e = 2 ∨ tk e = 10 ∨ tk e = 11 ∨ tk e = 12 ∨ tk e = 13 ∨ tk e = 14 ∨ tk e = 15 ∨ tk e = 16 ∨ (∃ r, r < 4 ∧ tk e = 20 + r) ∨ (tk e = 1 ∨ tk e = 3 ∨ 24 ≤ tk e) := by
  unfold pg_tv at h
  by_cases z : 20 ≤ tk e ∧ tk e ≤ 23
  · exact Or.inr (Or.inr (Or.inr (Or.inr (Or.inr (Or.inr (Or.inr (Or.inr (Or.inl ⟨tk e - 20, by omega, by omega⟩))))))))
  · omega
theorem pg_gd_N (hG : pg_G tk nx ln) (h : pg_C nx ln e) (hN : ∀ x, N ≤ x → c x = 0) (g : pg_gd tk (c i) e = true) (t : tk e = 1 ∨ tk e = 3 ∨ 24 ≤ tk e) : i < N := by
  obtain ⟨_, _, h3, _⟩ := pg_C_v hG h
  rcases Nat.lt_or_ge i N with z | z
  · exact z
  · rw [hN i z] at g
    unfold pg_gd at g
    by_cases t1 : tk e = 1
    · rw [if_pos t1] at g; simp at g
    · by_cases t3 : tk e = 3
      · rw [if_neg t1, if_pos t3] at g
        have g' := of_decide_eq_true g
        obtain ⟨_, h5, _⟩ := h3 t3
        omega
      · rw [if_neg t1, if_neg t3] at g
        have g' := of_decide_eq_true g
        omega
/-- places: from i to an end within N, looked at behind both -/
def pg_Bd (N i : Nat) (r : pg_R) : Prop := r.1 ≠ 0 → i ≤ r.2.1 ∧ r.2.1 ≤ N + 1 ∧ (2 ≤ r.1 → i + 2 ≤ r.1 ∧ r.1 ≤ r.2.1 + 2 ∧ r.1 ≤ N + 2)
theorem pg_sq_b {a : pg_R} {f : Nat → pg_R} (ha : pg_Bd N i a) (hf : ∀ j, a.1 = j + 2 → j ≤ N → pg_Bd N j (f j)) : pg_Bd N i (pg_sq a f) := by
  intro hz
  rcases a with ⟨_ | _ | j, w, k, p⟩
  · exact absurd rfl hz
  · have := ha (by simp)
    exact ⟨this.1, this.2.1, fun z => absurd z (by show ¬ 2 ≤ 1; decide)⟩
  · have h1 := ha (by simp)
    simp only at h1
    have h1' := h1.2.2 (by omega)
    have h2 := hf j rfl (by omega) hz
    show i ≤ max w (f j).2.1 ∧ max w (f j).2.1 ≤ N + 1 ∧ (2 ≤ (f j).1 → i + 2 ≤ (f j).1 ∧ (f j).1 ≤ max w (f j).2.1 + 2 ∧ (f j).1 ≤ N + 2)
    omega
theorem pg_ch_b {a b : pg_R} (ha : pg_Bd N i a) (hb : pg_Bd N i b) : pg_Bd N i (pg_ch a b) := by
  intro hz
  rcases a with ⟨_ | _ | j, w, k, p⟩
  · exact absurd rfl hz
  · have h1 := ha (by simp)
    have h2 := hb hz
    show i ≤ max w b.2.1 ∧ max w b.2.1 ≤ N + 1 ∧ (2 ≤ b.1 → i + 2 ≤ b.1 ∧ b.1 ≤ max w b.2.1 + 2 ∧ b.1 ≤ N + 2)
    simp only at h1
    omega
  · exact ha (by simp)
theorem pg_ag_b {a : pg_R} {f : Nat → pg_R} (hi : i ≤ N) (ha : pg_Bd N i a) (hf : ∀ j, a.1 = j + 2 → j ≤ N → pg_Bd N j (f j) ∧ ((f j).1 ≠ 0 → 2 ≤ (f j).1)) : pg_Bd N i (pg_ag i a f) ∧ ((pg_ag i a f).1 ≠ 0 → 2 ≤ (pg_ag i a f).1) := by
  rcases a with ⟨_ | _ | j, w, k, p⟩
  · exact ⟨fun hz => absurd rfl hz, fun hz => absurd rfl hz⟩
  · have h1 := ha (by simp)
    simp only at h1
    refine ⟨fun _ => ?_, fun _ => ?_⟩
    · show i ≤ w ∧ w ≤ N + 1 ∧ (2 ≤ i + 2 → i + 2 ≤ i + 2 ∧ i + 2 ≤ w + 2 ∧ i + 2 ≤ N + 2)
      omega
    · show 2 ≤ i + 2
      omega
  · have h1 := ha (by simp)
    simp only at h1
    have h1' := h1.2.2 (by omega)
    have h2 := hf j rfl (by omega)
    by_cases hj : j = i
    · simp only [pg_ag, if_pos hj, pg_Bd]
      omega
    · simp only [pg_ag, if_neg hj]
      refine ⟨fun hz => ?_, fun hz => h2.2 hz⟩
      have h3 := h2.1 hz
      simp only at h3 ⊢
      omega
theorem pg_pl_b {a : pg_R} {f : Nat → pg_R} (ha : pg_Bd N i a) (hf : ∀ j, a.1 = j + 2 → j ≤ N → pg_Bd N j (f j)) (hi : a.1 = i + 2 → (f i).1 ≠ 0 → (f i).1 = i + 2) : pg_Bd N i (pg_pl i a f) := by
  intro hz
  rcases a with ⟨_ | _ | j, w, k, p⟩
  · exact absurd rfl hz
  · have := ha (by simp)
    exact ⟨this.1, this.2.1, fun z => absurd z (by show ¬ 2 ≤ 1; decide)⟩
  · have h1 := ha (by simp)
    simp only at h1
    have h1' := h1.2.2 (by omega)
    by_cases hj : j = i
    · simp only [pg_pl, if_pos hj] at hz ⊢
      subst hj
      have := hi rfl hz
      omega
    · simp only [pg_pl, if_neg hj] at hz ⊢
      have h2 := hf j rfl (by omega) hz
      omega
theorem pg_u_b {a : pg_R} (hi : i ≤ N) (ha : pg_Bd N i a) : pg_Bd N i (pg_op i a) ∧ pg_Bd N i (pg_an i a) ∧ pg_Bd N i (pg_nt i a) ∧ (∀ q, pg_Bd N i (pg_ca q a)) := by
  rcases a with ⟨_ | _ | j, w, k, p⟩
  · exact ⟨fun hz => absurd rfl hz, fun hz => absurd rfl hz, fun hz => absurd rfl hz, fun _ hz => absurd rfl hz⟩
  · have h1 := ha (by simp)
    simp only at h1
    refine ⟨fun _ => ?_, fun _ => ?_, fun _ => ?_, fun _ _ => ?_⟩ <;> simp only [pg_op, pg_an, pg_nt, pg_ca] <;> omega
  · have h1 := ha (by simp)
    simp only at h1
    refine ⟨fun _ => ?_, fun _ => ?_, fun _ => ?_, fun _ _ => ?_⟩ <;> simp only [pg_op, pg_an, pg_nt, pg_ca] <;> omega
/-- in a repetition at one place the two figures agree -/
theorem pg_pl_i {n : Nat} (h : ((pg_ev tk nx ln c n).1 (e + 1) i).1 = i + 2) (h2 : ((pg_ev tk nx ln c n).2 e i).1 ≠ 0) : ((pg_ev tk nx ln c n).2 e i).1 = i + 2 := by
  cases n with
  | zero => exact absurd rfl h2
  | succ n =>
    have e1 : (pg_ev tk nx ln c (n + 1)).2 e i = pg_ag i ((pg_ev tk nx ln c n).1 (e + 1) i) (fun j => (pg_ev tk nx ln c n).2 e j) := rfl
    rw [e1] at h2 ⊢
    by_cases z : ((pg_ev tk nx ln c n).1 (e + 1) i).1 = 0
    · revert h2 z
      rcases (pg_ev tk nx ln c n).1 (e + 1) i with ⟨_ | o, w, k, p⟩
      · exact fun h2 _ => absurd rfl h2
      · exact fun _ z => absurd z (by simp)
    · have := (pg_ev_s n (e + 1) i).1 z
      rw [this] at h
      revert h
      rcases (pg_ev tk nx ln c n).1 (e + 1) i with ⟨o, w, k, p⟩
      intro h
      simp only at h
      subst h
      simp only [pg_ag, if_true]
theorem pg_bd (hG : pg_G tk nx ln) (hN : ∀ x, N ≤ x → c x = 0) (n : Nat) : ∀ e i, pg_C nx ln e → i ≤ N → pg_Bd N i ((pg_ev tk nx ln c n).1 e i) ∧ ((tk e = 12 ∨ tk e = 13) → pg_Bd N i ((pg_ev tk nx ln c n).2 e i) ∧ (((pg_ev tk nx ln c n).2 e i).1 ≠ 0 → 2 ≤ ((pg_ev tk nx ln c n).2 e i).1)) := by
  induction n with
  | zero => exact fun e i _ _ => ⟨fun h => absurd rfl h, fun _ => ⟨fun h => absurd rfl h, fun h => absurd rfl h⟩⟩
  | succ n ih =>
    intro e i he hi
    constructor
    · show pg_Bd N i (pg_D tk nx ln c (pg_ev tk nx ln c n).1 (pg_ev tk nx ln c n).2 e i)
      rcases pg_tc (pg_C_v hG he).1 with t | t | t | t | t | t | t | t | ⟨r, hr, t⟩ | t
      · rw [pg_D_2 t]
        intro _
        show i ≤ i ∧ i ≤ N + 1 ∧ (2 ≤ i + 2 → i + 2 ≤ i + 2 ∧ i + 2 ≤ i + 2 ∧ i + 2 ≤ N + 2)
        omega
      · rw [pg_D_10 t]
        obtain ⟨s1, s2, _⟩ := pg_C_b hG he (Or.inl t)
        exact pg_sq_b (ih _ _ s1 hi).1 (fun j _ hj => (ih _ _ s2 hj).1)
      · rw [pg_D_11 t]
        obtain ⟨s1, s2, _⟩ := pg_C_b hG he (Or.inr t)
        exact pg_ch_b (ih _ _ s1 hi).1 (ih _ _ s2 hi).1
      · rw [pg_D_12 t]
        exact ((ih e i he hi).2 (Or.inl t)).1
      · rw [pg_D_13 t]
        obtain ⟨s1, _⟩ := pg_C_u hG he (by omega)
        exact pg_pl_b (ih _ _ s1 hi).1 (fun j _ hj => ((ih _ _ he hj).2 (Or.inr t)).1) (fun h h2 => pg_pl_i h h2)
      · rw [pg_D_14 t]
        obtain ⟨s1, _⟩ := pg_C_u hG he (by omega)
        exact (pg_u_b hi (ih _ _ s1 hi).1).1
      · rw [pg_D_15 t]
        obtain ⟨s1, _⟩ := pg_C_u hG he (by omega)
        exact (pg_u_b hi (ih _ _ s1 hi).1).2.1
      · rw [pg_D_16 t]
        obtain ⟨s1, _⟩ := pg_C_u hG he (by omega)
        exact (pg_u_b hi (ih _ _ s1 hi).1).2.2.1
      · rw [pg_D_c hr t]
        by_cases hl : ln r = 0
        · rw [if_pos hl]
          intro _
          exact ⟨Nat.le_refl _, by show i ≤ N + 1; omega, fun z => absurd z (by show ¬ 2 ≤ 1; decide)⟩
        · rw [if_neg hl]
          exact (pg_u_b hi (ih _ _ (pg_C_r hG hr hl).1 hi).1).2.2.2 _
      · rw [pg_D_l t]
        intro _
        unfold pg_le
        by_cases g : pg_gd tk (c i) e = true
        · have := pg_gd_N hG he hN g t
          rw [if_pos g]
          show i ≤ i + 1 ∧ i + 1 ≤ N + 1 ∧ (2 ≤ i + 3 → i + 2 ≤ i + 3 ∧ i + 3 ≤ i + 1 + 2 ∧ i + 3 ≤ N + 2)
          omega
        · rw [if_neg g]
          exact ⟨by show i ≤ i + 1; omega, by show i + 1 ≤ N + 1; omega, fun z => absurd z (by show ¬ 2 ≤ 1; decide)⟩
    · intro t
      show pg_Bd N i (pg_ag i ((pg_ev tk nx ln c n).1 (e + 1) i) (fun j => (pg_ev tk nx ln c n).2 e j)) ∧ _
      obtain ⟨s1, _⟩ := pg_C_u hG he (by omega)
      exact pg_ag_b hi (ih _ _ s1 hi).1 (fun j _ hj => (ih _ _ he hj).2 t)
/-! the window -/
def pg_W (i i' : Nat) (r r' : pg_R) : Prop := r.1 ≠ 0 → (r.1 = 1 → r'.1 = 1) ∧ (2 ≤ r.1 → r'.1 + i = r.1 + i') ∧ r'.2.1 + i = r.2.1 + i'
def pg_Ag (c c' : Nat → Nat) (i i' w : Nat) : Prop := ∀ x, i + x < w → c' (i' + x) = c (i + x)
theorem pg_Ag_s {c c' : Nat → Nat} {i' j j' w v : Nat} (h : pg_Ag c c' i i' w) (hj : i ≤ j) (hj' : j' + i = j + i') (hv : v ≤ w) : pg_Ag c c' j j' v := by
  intro x hx
  have := h (j - i + x) (by omega)
  rw [show i + (j - i + x) = j + x by omega, show i' + (j - i + x) = j' + x by omega] at this
  exact this
theorem pg_sq_w {c c' : Nat → Nat} {i' : Nat} {a a' : pg_R} {f f' : Nat → pg_R} (ba : pg_Bd N i a) (ha : pg_Ag c c' i i' a.2.1 → pg_W i i' a a')
    (hf : ∀ j j', a.1 = j + 2 → j ≤ N → pg_Ag c c' j j' (f j).2.1 → pg_W j j' (f j) (f' j')) (h : pg_Ag c c' i i' (pg_sq a f).2.1) : pg_W i i' (pg_sq a f) (pg_sq a' f') := by
  intro hz
  rcases a with ⟨_ | _ | j, w, k, p⟩
  · exact absurd rfl hz
  · obtain ⟨h1, _, h3⟩ := ha h (by simp)
    have h1' := h1 rfl
    rcases a' with ⟨o', w', k', p'⟩
    simp only at h1' h3
    subst h1'
    exact ⟨fun _ => rfl, fun z => absurd z (by show ¬ 2 ≤ 1; decide), h3⟩
  · have hb := ba (by simp)
    simp only at hb
    have hb' := hb.2.2 (by omega)
    have h0 : pg_Ag c c' i i' (max w (f j).2.1) := h
    obtain ⟨_, h2, h3⟩ := ha (pg_Ag_s h0 (Nat.le_refl i) (Nat.add_comm _ _) (Nat.le_max_left _ _)) (by simp)
    rcases a' with ⟨o', w', k', p'⟩
    simp only at h2 h3
    have h2' := h2 (by omega)
    obtain ⟨j', rfl⟩ : ∃ j', o' = j' + 2 := ⟨o' - 2, by omega⟩
    obtain ⟨g1, g2, g3⟩ := hf j j' rfl (by omega) (pg_Ag_s h0 (by omega) (by omega) (Nat.le_max_right _ _)) hz
    show ((f j).1 = 1 → (f' j').1 = 1) ∧ (2 ≤ (f j).1 → (f' j').1 + i = (f j).1 + i') ∧ max w' (f' j').2.1 + i = max w (f j).2.1 + i'
    omega
theorem pg_ch_w {c c' : Nat → Nat} {i' : Nat} {a a' b b' : pg_R} (ha : pg_Ag c c' i i' a.2.1 → pg_W i i' a a')
    (hb : pg_Ag c c' i i' b.2.1 → pg_W i i' b b') (ba : pg_Bd N i a) (h : pg_Ag c c' i i' (pg_ch a b).2.1) : pg_W i i' (pg_ch a b) (pg_ch a' b') := by
  intro hz
  rcases a with ⟨_ | _ | j, w, k, p⟩
  · exact absurd rfl hz
  · have h0 : pg_Ag c c' i i' (max w b.2.1) := h
    obtain ⟨h1, _, h3⟩ := ha (pg_Ag_s h0 (Nat.le_refl i) (Nat.add_comm _ _) (Nat.le_max_left _ _)) (by simp)
    obtain ⟨g1, g2, g3⟩ := hb (pg_Ag_s h0 (Nat.le_refl i) (Nat.add_comm _ _) (Nat.le_max_right _ _)) hz
    have h1' := h1 rfl
    rcases a' with ⟨o', w', k', p'⟩
    simp only at h1' h3
    subst h1'
    show (b.1 = 1 → b'.1 = 1) ∧ (2 ≤ b.1 → b'.1 + i = b.1 + i') ∧ max w' b'.2.1 + i = max w b.2.1 + i'
    omega
  · have hb := ba (by simp)
    simp only at hb
    obtain ⟨_, h2, h3⟩ := ha h (by simp)
    rcases a' with ⟨o', w', k', p'⟩
    simp only at h2 h3
    have h2' := h2 (by omega)
    obtain ⟨j', rfl⟩ : ∃ j', o' = j' + 2 := ⟨o' - 2, by omega⟩
    show (j + 2 = 1 → j' + 2 = 1) ∧ (2 ≤ j + 2 → j' + 2 + i = j + 2 + i') ∧ w' + i = w + i'
    omega
theorem pg_ag_w {c c' : Nat → Nat} {i' : Nat} {a a' : pg_R} {f f' : Nat → pg_R} (ba : pg_Bd N i a) (ha : pg_Ag c c' i i' a.2.1 → pg_W i i' a a')
    (hf : ∀ j j', a.1 = j + 2 → j ≤ N → pg_Ag c c' j j' (f j).2.1 → pg_W j j' (f j) (f' j')) (h : pg_Ag c c' i i' (pg_ag i a f).2.1) : pg_W i i' (pg_ag i a f) (pg_ag i' a' f') := by
  intro hz
  rcases a with ⟨_ | _ | j, w, k, p⟩
  · exact absurd rfl hz
  · obtain ⟨h1, _, h3⟩ := ha h (by simp)
    have h1' := h1 rfl
    rcases a' with ⟨o', w', k', p'⟩
    simp only at h1' h3
    subst h1'
    exact ⟨fun z => absurd z (by show ¬ i + 2 = 1; omega), fun _ => by show i' + 2 + i = i + 2 + i'; omega, h3⟩
  · have hb := ba (by simp)
    simp only at hb
    have hb' := hb.2.2 (by omega)
    by_cases hj : j = i
    · simp only [pg_ag, if_pos hj] at h hz ⊢
      obtain ⟨_, h2, h3⟩ := ha h (by simp)
      rcases a' with ⟨o', w', k', p'⟩
      simp only at h2 h3
      have h2' := h2 (by omega)
      obtain ⟨j', rfl⟩ : ∃ j', o' = j' + 2 := ⟨o' - 2, by omega⟩
      simp only [if_pos (show j' = i' by omega)]
      omega
    · simp only [pg_ag, if_neg hj] at h hz ⊢
      obtain ⟨_, h2, h3⟩ := ha (pg_Ag_s h (Nat.le_refl i) (Nat.add_comm _ _) (Nat.le_max_left _ _)) (by simp)
      rcases a' with ⟨o', w', k', p'⟩
      simp only at h2 h3
      have h2' := h2 (by omega)
      obtain ⟨j', rfl⟩ : ∃ j', o' = j' + 2 := ⟨o' - 2, by omega⟩
      simp only [if_neg (show ¬ j' = i' by omega)]
      obtain ⟨g1, g2, g3⟩ := hf j j' rfl (by omega) (pg_Ag_s h (by omega) (by omega) (Nat.le_max_right _ _)) hz
      omega
theorem pg_pl_w {c c' : Nat → Nat} {i' : Nat} {a a' : pg_R} {f f' : Nat → pg_R} (ba : pg_Bd N i a) (ha : pg_Ag c c' i i' a.2.1 → pg_W i i' a a')
    (hf : ∀ j j', a.1 = j + 2 → j ≤ N → pg_Ag c c' j j' (f j).2.1 → pg_W j j' (f j) (f' j')) (hi : a.1 = i + 2 → (f i).1 ≠ 0 → (f i).2.1 ≤ a.2.1)
    (h : pg_Ag c c' i i' (pg_pl i a f).2.1) : pg_W i i' (pg_pl i a f) (pg_pl i' a' f') := by
  intro hz
  rcases a with ⟨_ | _ | j, w, k, p⟩
  · exact absurd rfl hz
  · obtain ⟨h1, _, h3⟩ := ha h (by simp)
    have h1' := h1 rfl
    rcases a' with ⟨o', w', k', p'⟩
    simp only at h1' h3
    subst h1'
    exact ⟨fun _ => rfl, fun z => absurd z (by show ¬ 2 ≤ 1; decide), h3⟩
  · have hb := ba (by simp)
    simp only at hb
    have hb' := hb.2.2 (by omega)
    by_cases hj : j = i
    · simp only [pg_pl, if_pos hj] at h hz ⊢
      subst hj
      obtain ⟨_, h2, h3⟩ := ha h (by simp)
      rcases a' with ⟨o', w', k', p'⟩
      simp only at h2 h3
      have h2' := h2 (by omega)
      obtain ⟨j', rfl⟩ : ∃ j', o' = j' + 2 := ⟨o' - 2, by omega⟩
      obtain rfl : j' = i' := by omega
      obtain ⟨g1, g2, g3⟩ := hf j j' rfl (by omega) (pg_Ag_s h (by omega) (by omega) (hi rfl hz)) hz
      simp only [if_true]
      omega
    · simp only [pg_pl, if_neg hj] at h hz ⊢
      obtain ⟨_, h2, h3⟩ := ha (pg_Ag_s h (Nat.le_refl i) (Nat.add_comm _ _) (Nat.le_max_left _ _)) (by simp)
      rcases a' with ⟨o', w', k', p'⟩
      simp only at h2 h3
      have h2' := h2 (by omega)
      obtain ⟨j', rfl⟩ : ∃ j', o' = j' + 2 := ⟨o' - 2, by omega⟩
      simp only [if_neg (show ¬ j' = i' by omega)]
      obtain ⟨g1, g2, g3⟩ := hf j j' rfl (by omega) (pg_Ag_s h (by omega) (by omega) (Nat.le_max_right _ _)) hz
      omega
theorem pg_u_w {i' : Nat} {a a' : pg_R} (ba : pg_Bd N i a) (ha : pg_W i i' a a') : pg_W i i' (pg_op i a) (pg_op i' a') ∧ pg_W i i' (pg_an i a) (pg_an i' a') ∧ pg_W i i' (pg_nt i a) (pg_nt i' a') ∧ (∀ q q', pg_W i i' (pg_ca q a) (pg_ca q' a')) := by
  rcases a with ⟨_ | _ | j, w, k, p⟩
  · exact ⟨fun hz => absurd rfl hz, fun hz => absurd rfl hz, fun hz => absurd rfl hz, fun _ _ hz => absurd rfl hz⟩
  · obtain ⟨h1, _, h3⟩ := ha (by simp)
    have h1' := h1 rfl
    rcases a' with ⟨o', w', k', p'⟩
    simp only at h1' h3
    subst h1'
    refine ⟨fun _ => ?_, fun _ => ?_, fun _ => ?_, fun _ _ _ => ?_⟩ <;> simp only [pg_op, pg_an, pg_nt, pg_ca] <;> refine ⟨fun _ => by omega, fun _ => by omega, by omega⟩
  · have hb := ba (by simp)
    simp only at hb
    have hb' := hb.2.2 (by omega)
    obtain ⟨_, h2, h3⟩ := ha (by simp)
    rcases a' with ⟨o', w', k', p'⟩
    simp only at h2 h3
    have h2' := h2 (by omega)
    obtain ⟨j', rfl⟩ : ∃ j', o' = j' + 2 := ⟨o' - 2, by omega⟩
    refine ⟨fun _ => ?_, fun _ => ?_, fun _ => ?_, fun _ _ _ => ?_⟩ <;> simp only [pg_op, pg_an, pg_nt, pg_ca] <;> refine ⟨fun _ => by omega, fun _ => by omega, by omega⟩
theorem pg_pl_j {n : Nat} (h : ((pg_ev tk nx ln c n).1 (e + 1) i).1 = i + 2) (h2 : ((pg_ev tk nx ln c n).2 e i).1 ≠ 0) : ((pg_ev tk nx ln c n).2 e i).2.1 = ((pg_ev tk nx ln c n).1 (e + 1) i).2.1 := by
  cases n with
  | zero => exact absurd rfl h2
  | succ n =>
    have e1 : (pg_ev tk nx ln c (n + 1)).2 e i = pg_ag i ((pg_ev tk nx ln c n).1 (e + 1) i) (fun j => (pg_ev tk nx ln c n).2 e j) := rfl
    rw [e1] at h2 ⊢
    by_cases z : ((pg_ev tk nx ln c n).1 (e + 1) i).1 = 0
    · revert h2 z
      rcases (pg_ev tk nx ln c n).1 (e + 1) i with ⟨_ | o, w, k, p⟩
      · exact fun h2 _ => absurd rfl h2
      · exact fun _ z => absurd z (by simp)
    · have := (pg_ev_s n (e + 1) i).1 z
      rw [this] at h ⊢
      revert h
      rcases (pg_ev tk nx ln c n).1 (e + 1) i with ⟨o, w, k, p⟩
      intro h
      simp only at h
      subst h
      simp only [pg_ag, if_true]
theorem pg_win (hG : pg_G tk nx ln) (hN : ∀ x, N ≤ x → c x = 0) (c' : Nat → Nat) (n : Nat) : ∀ e i i', pg_C nx ln e → i ≤ N →
    (pg_Ag c c' i i' ((pg_ev tk nx ln c n).1 e i).2.1 → pg_W i i' ((pg_ev tk nx ln c n).1 e i) ((pg_ev tk nx ln c' n).1 e i')) ∧
    ((tk e = 12 ∨ tk e = 13) → pg_Ag c c' i i' ((pg_ev tk nx ln c n).2 e i).2.1 → pg_W i i' ((pg_ev tk nx ln c n).2 e i) ((pg_ev tk nx ln c' n).2 e i')) := by
  induction n with
  | zero => exact fun e i i' _ _ => ⟨fun _ h => absurd rfl h, fun _ _ h => absurd rfl h⟩
  | succ n ih =>
    intro e i i' he hi
    constructor
    · show pg_Ag c c' i i' (pg_D tk nx ln c (pg_ev tk nx ln c n).1 (pg_ev tk nx ln c n).2 e i).2.1 → pg_W i i' (pg_D tk nx ln c (pg_ev tk nx ln c n).1 (pg_ev tk nx ln c n).2 e i) (pg_D tk nx ln c' (pg_ev tk nx ln c' n).1 (pg_ev tk nx ln c' n).2 e i')
      intro h
      rcases pg_tc (pg_C_v hG he).1 with t | t | t | t | t | t | t | t | ⟨r, hr, t⟩ | t
      · rw [pg_D_2 t, pg_D_2 t]
        simp only [pg_W]
        omega
      · rw [pg_D_10 t] at h
        rw [pg_D_10 t, pg_D_10 t]
        obtain ⟨s1, s2, _⟩ := pg_C_b hG he (Or.inl t)
        exact pg_sq_w (pg_bd hG hN n _ _ s1 hi).1 (ih _ _ _ s1 hi).1 (fun j j' _ hj => (ih _ _ _ s2 hj).1) h
      · rw [pg_D_11 t] at h
        rw [pg_D_11 t, pg_D_11 t]
        obtain ⟨s1, s2, _⟩ := pg_C_b hG he (Or.inr t)
        exact pg_ch_w (ih _ _ _ s1 hi).1 (ih _ _ _ s2 hi).1 (pg_bd hG hN n _ _ s1 hi).1 h
      · rw [pg_D_12 t] at h
        rw [pg_D_12 t, pg_D_12 t]
        exact (ih _ _ _ he hi).2 (Or.inl t) h
      · rw [pg_D_13 t] at h
        rw [pg_D_13 t, pg_D_13 t]
        obtain ⟨s1, _⟩ := pg_C_u hG he (by omega)
        exact pg_pl_w (pg_bd hG hN n _ _ s1 hi).1 (ih _ _ _ s1 hi).1 (fun j j' _ hj => (ih _ _ _ he hj).2 (Or.inr t)) (fun a b => Nat.le_of_eq (pg_pl_j a b)) h
      · rw [pg_D_14 t] at h
        rw [pg_D_14 t, pg_D_14 t]
        obtain ⟨s1, _⟩ := pg_C_u hG he (by omega)
        intro hz
        refine (pg_u_w (pg_bd hG hN n _ _ s1 hi).1 ((ih _ _ _ s1 hi).1 ?_)).1 hz
        revert h hz
        rcases (pg_ev tk nx ln c n).1 (e + 1) i with ⟨_ | _ | j, w, k, p⟩
        · exact fun _ hz => absurd rfl hz
        · exact fun h _ => h
        · exact fun h _ => h
      · rw [pg_D_15 t] at h
        rw [pg_D_15 t, pg_D_15 t]
        obtain ⟨s1, _⟩ := pg_C_u hG he (by omega)
        intro hz
        refine (pg_u_w (pg_bd hG hN n _ _ s1 hi).1 ((ih _ _ _ s1 hi).1 ?_)).2.1 hz
        revert h hz
        rcases (pg_ev tk nx ln c n).1 (e + 1) i with ⟨_ | _ | j, w, k, p⟩
        · exact fun _ hz => absurd rfl hz
        · exact fun h _ => h
        · exact fun h _ => h
      · rw [pg_D_16 t] at h
        rw [pg_D_16 t, pg_D_16 t]
        obtain ⟨s1, _⟩ := pg_C_u hG he (by omega)
        intro hz
        refine (pg_u_w (pg_bd hG hN n _ _ s1 hi).1 ((ih _ _ _ s1 hi).1 ?_)).2.2.1 hz
        revert h hz
        rcases (pg_ev tk nx ln c n).1 (e + 1) i with ⟨_ | _ | j, w, k, p⟩
        · exact fun _ hz => absurd rfl hz
        · exact fun h _ => h
        · exact fun h _ => h
      · rw [pg_D_c hr t] at h
        rw [pg_D_c hr t, pg_D_c hr t]
        by_cases hl : ln r = 0
        · rw [if_pos hl, if_pos hl]
          exact fun _ => ⟨fun _ => rfl, fun z => absurd z (by show ¬ 2 ≤ 1; decide), Nat.add_comm _ _⟩
        · rw [if_neg hl] at h
          rw [if_neg hl, if_neg hl]
          have s1 := (pg_C_r hG hr hl).1
          intro hz
          refine (pg_u_w (pg_bd hG hN n _ _ s1 hi).1 ((ih _ _ _ s1 hi).1 ?_)).2.2.2 _ _ hz
          revert h hz
          rcases (pg_ev tk nx ln c n).1 (12 * r) i with ⟨_ | _ | j, w, k, p⟩
          · exact fun _ hz => absurd rfl hz
          · exact fun h _ => h
          · exact fun h _ => h
      · rw [pg_D_l t] at h
        rw [pg_D_l t, pg_D_l t]
        have h0 : c' i' = c i := by
          have := h 0 (by unfold pg_le; by_cases g : pg_gd tk (c i) e = true <;> simp [g])
          simpa using this
        rw [h0]
        unfold pg_le
        by_cases g : pg_gd tk (c i) e = true
        · simp only [g, pg_W, if_true]
          omega
        · simp only [g, pg_W]
          simp
          omega
    · intro t h
      obtain ⟨s1, _⟩ := pg_C_u hG he (by omega)
      exact pg_ag_w (pg_bd hG hN n _ _ s1 hi).1 (ih _ _ _ s1 hi).1 (fun j j' _ hj => (ih _ _ _ he hj).2 t) h
end
end
section
/-! the cost tables, printed by tab.py -/
def pt_z0 : List (List Nat) := [[0, 0, 0, 0, 0, 0, 0, 0, 0, 0, 0, 0, 0, 0, 0, 0, 0], [1, 1, 1, 1, 1, 1, 1, 1, 1, 1, 1, 1, 1, 1, 1, 1, 1], [3, 3, 3, 3, 3, 3, 3, 3, 3, 3, 3, 3, 3, 3, 3, 3, 3], [5, 7, 9, 11, 13, 15, 17, 19, 21, 23, 25, 27, 29, 31, 33, 35, 37], [7, 13, 19, 25, 31, 37, 43, 49, 55, 61, 67, 73, 79, 85, 91, 97, 103], [9, 21, 33, 45, 57, 69, 81, 93, 105, 117, 129, 141, 153, 165, 177, 189, 201], [11, 31, 53, 75, 97, 119, 141, 163, 185, 207, 229, 251, 273, 295, 317, 339, 361], [13, 47, 85, 125, 167, 211, 257, 305, 355, 407, 461, 517, 575, 635, 697, 761, 827], [15, 71, 137, 211, 293, 383, 481, 587, 701, 823, 953, 1091, 1237, 1391, 1553, 1723, 1901], [17, 105, 217, 349, 501, 673, 865, 1077, 1309, 1561, 1833, 2125, 2437, 2769, 3121, 3493, 3885], [19, 155, 339, 567, 839, 1155, 1515, 1919, 2367, 2859, 3395, 3975, 4599, 5267, 5979, 6735, 7535], [21, 229, 529, 919, 1401, 1977, 2649, 3419, 4289, 5261, 6337, 7519, 8809, 10209, 11721, 13347, 15089], [23, 337, 823, 1485, 2333, 3377, 4627, 6093, 7785, 9713, 11887, 14317, 17013, 19985, 23243, 26797, 30657]]
def pt_z1 : List (List Nat) := [[0, 0, 0, 0, 0, 0, 0, 0, 0, 0, 0, 0, 0, 0, 0, 0, 0], [1, 1, 1, 1, 1, 1, 1, 1, 1, 1, 1, 1, 1, 1, 1, 1, 1], [3, 3, 3, 3, 3, 3, 3, 3, 3, 3, 3, 3, 3, 3, 3, 3, 3], [5, 5, 5, 5, 5, 5, 5, 5, 5, 5, 5, 5, 5, 5, 5, 5, 5], [7, 7, 8, 10, 12, 14, 16, 18, 20, 22, 24, 26, 28, 30, 32, 34, 36], [9, 12, 18, 24, 30, 36, 42, 48, 54, 60, 66, 72, 78, 84, 90, 96, 102], [11, 20, 32, 44, 56, 68, 80, 92, 104, 116, 128, 140, 152, 164, 176, 188, 200], [13, 30, 52, 74, 96, 118, 140, 162, 184, 206, 228, 250, 272, 294, 316, 338, 360], [15, 46, 84, 124, 166, 210, 256, 304, 354, 406, 460, 516, 574, 634, 696, 760, 826], [17, 70, 136, 210, 292, 382, 480, 586, 700, 822, 952, 1090, 1236, 1390, 1552, 1722, 1900], [19, 104, 216, 348, 500, 672, 864, 1076, 1308, 1560, 1832, 2124, 2436, 2768, 3120, 3492, 3884], [21, 154, 338, 566, 838, 1154, 1514, 1918, 2366, 2858, 3394, 3974, 4598, 5266, 5978, 6734, 7534], [23, 228, 528, 918, 1400, 1976, 2648, 3418, 4288, 5260, 6336, 7518, 8808, 10208, 11720, 13346, 15088]]
def pt_nn : List (List Nat) := [[0, 0, 0, 0, 0, 0, 0, 0, 0, 0, 0, 0, 0, 0, 0, 0, 0], [1, 1, 1, 1, 1, 1, 1, 1, 1, 1, 1, 1, 1, 1, 1, 1, 1], [3, 3, 3, 3, 3, 3, 3, 3, 3, 3, 3, 3, 3, 3, 3, 3, 3], [5, 5, 5, 5, 5, 5, 5, 5, 5, 5, 5, 5, 5, 5, 5, 5, 5], [7, 7, 7, 7, 7, 7, 7, 7, 7, 7, 7, 7, 7, 7, 7, 7, 7], [9, 9, 11, 13, 15, 17, 19, 21, 23, 25, 27, 29, 31, 33, 35, 37, 39], [11, 15, 21, 27, 33, 39, 45, 51, 57, 63, 69, 75, 81, 87, 93, 99, 105], [13, 23, 35, 47, 59, 71, 83, 95, 107, 119, 131, 143, 155, 167, 179, 191, 203], [15, 33, 55, 77, 99, 121, 143, 165, 187, 209, 231, 253, 275, 297, 319, 341, 363], [17, 49, 87, 127, 169, 213, 259, 307, 357, 409, 463, 519, 577, 637, 699, 763, 829], [19, 73, 139, 213, 295, 385, 483, 589, 703, 825, 955, 1093, 1239, 1393, 1555, 1725, 1903], [21, 107, 219, 351, 503, 675, 867, 1079, 1311, 1563, 1835, 2127, 2439, 2771, 3123, 3495, 3887], [23, 157, 341, 569, 841, 1157, 1517, 1921, 2369, 2861, 3397, 3977, 4601, 5269, 5981, 6737, 7537]]
def pt_pp : List (List Nat) := [[0, 0, 0, 0, 0, 0, 0, 0, 0, 0, 0, 0, 0, 0, 0, 0, 0], [0, 0, 0, 0, 0, 0, 0, 0, 0, 0, 0, 0, 0, 0, 0, 0, 0], [0, 2, 4, 6, 8, 10, 12, 14, 16, 18, 20, 22, 24, 26, 28, 30, 32], [0, 6, 12, 18, 24, 30, 36, 42, 48, 54, 60, 66, 72, 78, 84, 90, 96], [0, 12, 24, 36, 48, 60, 72, 84, 96, 108, 120, 132, 144, 156, 168, 180, 192], [0, 20, 40, 60, 80, 100, 120, 140, 160, 180, 200, 220, 240, 260, 280, 300, 320], [0, 30, 62, 96, 132, 170, 210, 252, 296, 342, 390, 440, 492, 546, 602, 660, 720], [0, 46, 100, 162, 232, 310, 396, 490, 592, 702, 820, 946, 1080, 1222, 1372, 1530, 1696], [0, 70, 160, 270, 400, 550, 720, 910, 1120, 1350, 1600, 1870, 2160, 2470, 2800, 3150, 3520], [0, 104, 250, 438, 668, 940, 1254, 1610, 2008, 2448, 2930, 3454, 4020, 4628, 5278, 5970, 6704], [0, 154, 388, 704, 1104, 1590, 2164, 2828, 3584, 4434, 5380, 6424, 7568, 8814, 10164, 11620, 13184], [0, 228, 602, 1132, 1828, 2700, 3758, 5012, 6472, 8148, 10050, 12188, 14572, 17212, 20118, 23300, 26768], [0, 336, 930, 1812, 3012, 4560, 6486, 8820, 11592, 14832, 18570, 22836, 27660, 33072, 39102, 45780, 53136]]
def pt_dd : List (List Nat) := [[0, 0, 0, 0, 0, 0, 0, 0, 0, 0, 0, 0, 0, 0, 0, 0, 0], [1, 1, 1, 1, 1, 1, 1, 1, 1, 1, 1, 1, 1, 1, 1, 1, 1], [2, 4, 6, 8, 10, 12, 14, 16, 18, 20, 22, 24, 26, 28, 30, 32, 34], [3, 9, 15, 21, 27, 33, 39, 45, 51, 57, 63, 69, 75, 81, 87, 93, 99], [5, 17, 29, 41, 53, 65, 77, 89, 101, 113, 125, 137, 149, 161, 173, 185, 197], [7, 27, 47, 67, 87, 107, 127, 147, 167, 187, 207, 227, 247, 267, 287, 307, 327], [9, 39, 71, 105, 141, 179, 219, 261, 305, 351, 399, 449, 501, 555, 611, 669, 729], [11, 57, 111, 173, 243, 321, 407, 501, 603, 713, 831, 957, 1091, 1233, 1383, 1541, 1707], [13, 83, 173, 283, 413, 563, 733, 923, 1133, 1363, 1613, 1883, 2173, 2483, 2813, 3163, 3533], [15, 119, 265, 453, 683, 955, 1269, 1625, 2023, 2463, 2945, 3469, 4035, 4643, 5293, 5985, 6719], [17, 171, 405, 721, 1121, 1607, 2181, 2845, 3601, 4451, 5397, 6441, 7585, 8831, 10181, 11637, 13201], [19, 247, 621, 1151, 1847, 2719, 3777, 5031, 6491, 8167, 10069, 12207, 14591, 17231, 20137, 23319, 26787], [21, 357, 951, 1833, 3033, 4581, 6507, 8841, 11613, 14853, 18591, 22857, 27681, 33093, 39123, 45801, 53157]]
def pt_tt : List Nat := [24, 494, 1272, 2382, 3854, 5718, 8004, 10742, 13962, 17694, 21968, 26814, 32262, 38342, 45084, 52518, 60674]
def pt_Z (f m n : Nat) : Nat := ((if f = 0 then pt_z0 else pt_z1).getD m []).getD n 0
def pt_N (m n : Nat) : Nat := (pt_nn.getD m []).getD n 0
def pt_P (m n : Nat) : Nat := (pt_pp.getD m []).getD n 0
def pt_D (m n : Nat) : Nat := (pt_dd.getD m []).getD n 0
def pt_T (n : Nat) : Nat := pt_tt.getD n 0
theorem pt_x2 {P : Nat → Nat → Bool} {A B : Nat} (h : ((List.range A).all fun a => (List.range B).all fun b => P a b) = true) {a b : Nat} (ha : a < A) (hb : b < B) : P a b = true :=
  List.all_eq_true.mp (List.all_eq_true.mp h a (List.mem_range.mpr ha)) b (List.mem_range.mpr hb)
theorem pt_x3 {P : Nat → Nat → Nat → Bool} {A B C : Nat} (h : ((List.range A).all fun a => (List.range B).all fun b => (List.range C).all fun n => P a b n) = true) {a b n : Nat} (ha : a < A) (hb : b < B) (hn : n < C) : P a b n = true :=
  List.all_eq_true.mp (pt_x2 (P := fun a b => (List.range C).all fun n => P a b n) h ha hb) n (List.mem_range.mpr hn)
theorem pt_x4 {P : Nat → Nat → Nat → Nat → Bool} {A B C E : Nat} (h : ((List.range A).all fun a => (List.range B).all fun b => (List.range C).all fun n => (List.range E).all fun x => P a b n x) = true) {a b n x : Nat} (ha : a < A) (hb : b < B) (hn : n < C) (hx : x < E) : P a b n x = true :=
  List.all_eq_true.mp (pt_x3 (P := fun a b n => (List.range E).all fun x => P a b n x) h ha hb hn) x (List.mem_range.mpr hx)
/-- the tables grow with the letters left -/
def pt_pm (m n x : Nat) : Prop := x ≤ n → pt_Z 0 m x ≤ pt_Z 0 m n ∧ pt_Z 1 m x ≤ pt_Z 1 m n ∧ pt_N m x ≤ pt_N m n ∧ pt_P m x ≤ pt_P m n ∧ pt_D m x ≤ pt_D m n ∧ pt_Z 1 m n ≤ pt_Z 0 m n
theorem pt_m {m n x : Nat} (hm : m ≤ 12) (hn : n ≤ 16) (hx : x ≤ n) : pt_Z 0 m x ≤ pt_Z 0 m n ∧ pt_Z 1 m x ≤ pt_Z 1 m n ∧ pt_N m x ≤ pt_N m n ∧ pt_P m x ≤ pt_P m n ∧ pt_D m x ≤ pt_D m n ∧ pt_Z 1 m n ≤ pt_Z 0 m n := by
  have h : ((List.range 13).all fun m => (List.range 17).all fun n => (List.range 17).all fun x => decide (x ≤ n → pt_Z 0 m x ≤ pt_Z 0 m n ∧ pt_Z 1 m x ≤ pt_Z 1 m n ∧ pt_N m x ≤ pt_N m n ∧ pt_P m x ≤ pt_P m n ∧ pt_D m x ≤ pt_D m n ∧ pt_Z 1 m n ≤ pt_Z 0 m n)) = true := by decide +kernel
  exact of_decide_eq_true (pt_x3 h (show m < 13 by omega) (show n < 17 by omega) (show x < 17 by omega)) hx
theorem pt_lf {m n : Nat} (hm : m = 1 ∨ m = 3) (hn : n ≤ 16) : 1 ≤ pt_Z 0 m n ∧ 1 ≤ pt_Z 1 m n ∧ 1 ≤ pt_N m n := by
  have h : ((List.range 4).all fun m => (List.range 17).all fun n => decide ((m = 1 ∨ m = 3) → 1 ≤ pt_Z 0 m n ∧ 1 ≤ pt_Z 1 m n ∧ 1 ≤ pt_N m n)) = true := by decide +kernel
  exact of_decide_eq_true (pt_x2 h (show m < 4 by omega) (show n < 17 by omega)) hm
theorem pt_d1 {n : Nat} (hn : n ≤ 16) : 1 ≤ pt_D 1 n := by
  have h : ((List.range 1).all fun m => (List.range 17).all fun n => decide (1 ≤ pt_D (m + 1) n)) = true := by decide +kernel
  exact of_decide_eq_true (pt_x2 h (show 0 < 1 by omega) (show n < 17 by omega))
/-- two operands -/
theorem pt_bi {a b n : Nat} (ha : 1 ≤ a) (hb : 1 ≤ b) (hm : a + b + 1 ≤ 12) (hn : n ≤ 16) :
    (pt_Z 0 a n + pt_Z 0 b n + 1 ≤ pt_Z 0 (a + b + 1) n ∧ pt_Z 1 a n + pt_Z 0 b n + 1 ≤ pt_Z 1 (a + b + 1) n ∧ pt_Z 0 a n + pt_Z 1 b n + 1 ≤ pt_Z 1 (a + b + 1) n) ∧
    (2 + pt_Z 0 a n ≤ pt_Z 0 (a + b + 1) n ∧ 2 + pt_Z 0 a n ≤ pt_Z 1 (a + b + 1) n ∧ pt_N a n + pt_P a n + pt_Z 0 b n ≤ pt_Z 1 (a + b + 1) n) ∧
    (pt_N a n + pt_N b n ≤ pt_N (a + b + 1) n ∧ pt_N a n + pt_Z 0 b n ≤ pt_N (a + b + 1) n ∧ 1 + pt_Z 0 a n + pt_N b n ≤ pt_N (a + b + 1) n ∧ 2 + pt_N a n ≤ pt_N (a + b + 1) n) ∧
    (1 + pt_D a n ≤ pt_D (a + b + 1) n ∧ 1 + pt_Z 0 a n + pt_D b n ≤ pt_D (a + b + 1) n) := by
  have h : ((List.range 11).all fun a => (List.range 11).all fun b => (List.range 17).all fun n => decide (1 ≤ a → 1 ≤ b → a + b + 1 ≤ 12 →
    (pt_Z 0 a n + pt_Z 0 b n + 1 ≤ pt_Z 0 (a + b + 1) n ∧ pt_Z 1 a n + pt_Z 0 b n + 1 ≤ pt_Z 1 (a + b + 1) n ∧ pt_Z 0 a n + pt_Z 1 b n + 1 ≤ pt_Z 1 (a + b + 1) n) ∧
    (2 + pt_Z 0 a n ≤ pt_Z 0 (a + b + 1) n ∧ 2 + pt_Z 0 a n ≤ pt_Z 1 (a + b + 1) n ∧ pt_N a n + pt_P a n + pt_Z 0 b n ≤ pt_Z 1 (a + b + 1) n) ∧
    (pt_N a n + pt_N b n ≤ pt_N (a + b + 1) n ∧ pt_N a n + pt_Z 0 b n ≤ pt_N (a + b + 1) n ∧ 1 + pt_Z 0 a n + pt_N b n ≤ pt_N (a + b + 1) n ∧ 2 + pt_N a n ≤ pt_N (a + b + 1) n) ∧
    (1 + pt_D a n ≤ pt_D (a + b + 1) n ∧ 1 + pt_Z 0 a n + pt_D b n ≤ pt_D (a + b + 1) n))) = true := by decide +kernel
  exact of_decide_eq_true (pt_x3 h (show a < 11 by omega) (show b < 11 by omega) (show n < 17 by omega)) ha hb hm
theorem pt_bd {a b n x : Nat} (ha : 1 ≤ a) (hb : 1 ≤ b) (hm : a + b + 1 ≤ 12) (hn : n ≤ 16) (hx : x < n) : pt_N a n + pt_P a n + pt_D b x ≤ pt_D (a + b + 1) n + pt_P a x := by
  have h : ((List.range 11).all fun a => (List.range 11).all fun b => (List.range 17).all fun n => (List.range 17).all fun x => decide (1 ≤ a → 1 ≤ b → a + b + 1 ≤ 12 → x < n → pt_N a n + pt_P a n + pt_D b x ≤ pt_D (a + b + 1) n + pt_P a x)) = true := by decide +kernel
  exact of_decide_eq_true (pt_x4 h (show a < 11 by omega) (show b < 11 by omega) (show n < 17 by omega) (show x < 17 by omega)) ha hb hm hx
/-- a larger expression's potential falls at least as fast -/
theorem pt_pp' {a m n x : Nat} (ha : a < m) (hm : m ≤ 12) (hn : n ≤ 16) (hx : x ≤ n) (h1 : 1 ≤ a) : pt_P a n + pt_P m x ≤ pt_P m n + pt_P a x := by
  have h : ((List.range 12).all fun a => (List.range 13).all fun m => (List.range 17).all fun n => (List.range 17).all fun x => decide (a < m → 1 ≤ a → x ≤ n → pt_P a n + pt_P m x ≤ pt_P m n + pt_P a x)) = true := by decide +kernel
  exact of_decide_eq_true (pt_x4 h (show a < 12 by omega) (show m < 13 by omega) (show n < 17 by omega) (show x < 17 by omega)) ha h1 hx
/-- one operand -/
theorem pt_un {b n : Nat} (hb : 1 ≤ b) (hm : b + 1 ≤ 12) (hn : n ≤ 16) :
    (2 + pt_Z 0 b n ≤ pt_Z 0 (b + 1) n ∧ 2 + pt_Z 1 b n ≤ pt_Z 1 (b + 1) n ∧ 2 + pt_Z 1 b n ≤ pt_N (b + 1) n ∧ 2 + pt_N b n ≤ pt_N (b + 1) n ∧ 2 + pt_N b n + pt_P b n ≤ pt_Z 0 (b + 1) n ∧ 1 + pt_D b n ≤ pt_D (b + 1) n) := by
  have h : ((List.range 12).all fun b => (List.range 17).all fun n => decide (1 ≤ b → b + 1 ≤ 12 → 
    (2 + pt_Z 0 b n ≤ pt_Z 0 (b + 1) n ∧ 2 + pt_Z 1 b n ≤ pt_Z 1 (b + 1) n ∧ 2 + pt_Z 1 b n ≤ pt_N (b + 1) n ∧ 2 + pt_N b n ≤ pt_N (b + 1) n ∧ 2 + pt_N b n + pt_P b n ≤ pt_Z 0 (b + 1) n ∧ 1 + pt_D b n ≤ pt_D (b + 1) n))) = true := by decide +kernel
  exact of_decide_eq_true (pt_x2 h (show b < 12 by omega) (show n < 17 by omega)) hb hm
theorem pt_rn {b n x : Nat} (hb : 1 ≤ b) (hm : b + 1 ≤ 12) (hn : n ≤ 16) (hx : x < n) : pt_N b n + 1 + pt_P b n + pt_P (b + 1) x ≤ pt_P (b + 1) n + pt_P b x ∧ pt_N b n + pt_P b n + 1 + pt_D (b + 1) x ≤ pt_D (b + 1) n + pt_P b x := by
  have h : ((List.range 12).all fun b => (List.range 17).all fun n => (List.range 17).all fun x => decide (1 ≤ b → b + 1 ≤ 12 → x < n → pt_N b n + 1 + pt_P b n + pt_P (b + 1) x ≤ pt_P (b + 1) n + pt_P b x ∧ pt_N b n + pt_P b n + 1 + pt_D (b + 1) x ≤ pt_D (b + 1) n + pt_P b x)) = true := by decide +kernel
  exact of_decide_eq_true (pt_x3 h (show b < 12 by omega) (show n < 17 by omega) (show x < 17 by omega)) hb hm hx
theorem pt_t {m n : Nat} (h1 : 1 ≤ m) (hm : m ≤ 12) (hn : n ≤ 16) : pt_Z 0 m n + 1 ≤ pt_T n ∧ pt_N m n + pt_P m n + 1 ≤ pt_T n ∧ pt_D m n ≤ pt_T n := by
  have h : ((List.range 13).all fun m => (List.range 17).all fun n => decide (1 ≤ m → pt_Z 0 m n + 1 ≤ pt_T n ∧ pt_N m n + pt_P m n + 1 ≤ pt_T n ∧ pt_D m n ≤ pt_T n)) = true := by decide +kernel
  exact of_decide_eq_true (pt_x2 h (show m < 13 by omega) (show n < 17 by omega)) h1
/-! the steps of a frame stay within the tables -/
def pg_fl (tk nx ln c : Nat → Nat) (N e : Nat) : Prop := ∃ n i, i ≤ N ∧ i + 2 < ((pg_ev tk nx ln c n).1 e i).1
def pg_Q (m i : Nat) (fl : Prop) (r : pg_R) : Prop :=
  (r.1 = 1 ∨ r.1 = i + 2 → r.2.2.1 ≤ pt_Z 0 m (16 - i) ∧ (fl → r.2.2.1 ≤ pt_Z 1 m (16 - i))) ∧
  (∀ j, r.1 = j + 2 → i < j → r.2.2.1 + pt_P m (16 - j) ≤ pt_N m (16 - i) + pt_P m (16 - i))
section
variable {tk nx ln c : Nat → Nat} {e i N : Nat}
theorem pg_fl_b (hG : pg_G tk nx ln) (hN : ∀ x, N ≤ x → c x = 0) (he : pg_C nx ln e) (t : tk e = 10 ∨ tk e = 11) (h : pg_fl tk nx ln c N e) : pg_fl tk nx ln c N (e + 1) ∨ pg_fl tk nx ln c N (nx (e + 1)) := by
  obtain ⟨n, i, hi, h⟩ := h
  cases n with
  | zero => exact absurd h (by show ¬ i + 2 < 0; omega)
  | succ n =>
    obtain ⟨s1, s2, _⟩ := pg_C_b hG he t
    have b1 := (pg_bd hG hN n _ _ s1 hi).1
    have h' : i + 2 < (pg_D tk nx ln c (pg_ev tk nx ln c n).1 (pg_ev tk nx ln c n).2 e i).1 := h
    rcases ha : (pg_ev tk nx ln c n).1 (e + 1) i with ⟨_ | _ | j, w, k, p⟩
    · rcases t with t | t
      · rw [pg_D_10 t, ha] at h'
        exact absurd h' (by show ¬ i + 2 < 0; omega)
      · rw [pg_D_11 t, ha] at h'
        exact absurd h' (by show ¬ i + 2 < 0; omega)
    · rcases t with t | t
      · rw [pg_D_10 t, ha] at h'
        exact absurd h' (by show ¬ i + 2 < 1; omega)
      · rw [pg_D_11 t, ha] at h'
        exact Or.inr ⟨n, i, hi, h'⟩
    · rw [ha] at b1
      have b2 := b1 (by simp)
      simp only at b2
      have b3 := b2.2.2 (by omega)
      by_cases z : i < j
      · exact Or.inl ⟨n, i, hi, by rw [ha]; show i + 2 < j + 2; omega⟩
      · rcases t with t | t
        · rw [pg_D_10 t, ha] at h'
          exact Or.inr ⟨n, j, by omega, by have h'' : i + 2 < ((pg_ev tk nx ln c n).1 (nx (e + 1)) j).1 := h'; omega⟩
        · rw [pg_D_11 t, ha] at h'
          exact absurd h' (by show ¬ i + 2 < j + 2; omega)
theorem pg_fl_u (hG : pg_G tk nx ln) (hN : ∀ x, N ≤ x → c x = 0) (he : pg_C nx ln e) (t : tk e = 12 ∨ tk e = 13 ∨ tk e = 14) (h : pg_fl tk nx ln c N e) : pg_fl tk nx ln c N (e + 1) := by
  obtain ⟨n, i, hi, h⟩ := h
  cases n with
  | zero => exact absurd h (by show ¬ i + 2 < 0; omega)
  | succ n =>
    obtain ⟨s1, _⟩ := pg_C_u hG he (by omega)
    have h' : i + 2 < (pg_D tk nx ln c (pg_ev tk nx ln c n).1 (pg_ev tk nx ln c n).2 e i).1 := h
    rcases t with t | t | t
    · rw [pg_D_12 t] at h'
      have h2 : i + 2 < ((pg_ev tk nx ln c n).2 e i).1 := h'
      cases n with
      | zero => exact absurd h2 (by show ¬ i + 2 < 0; omega)
      | succ n =>
        have h3 : i + 2 < (pg_ag i ((pg_ev tk nx ln c n).1 (e + 1) i) (fun j => (pg_ev tk nx ln c n).2 e j)).1 := h2
        have b1 := (pg_bd hG hN n _ _ s1 hi).1
        rcases ha : (pg_ev tk nx ln c n).1 (e + 1) i with ⟨_ | _ | j, w, k, p⟩
        · rw [ha] at h3; exact absurd h3 (by show ¬ i + 2 < 0; omega)
        · rw [ha] at h3; exact absurd h3 (by show ¬ i + 2 < i + 2; omega)
        · rw [ha] at h3 b1
          have b2 := b1 (by simp)
          simp only at b2
          have b3 := b2.2.2 (by omega)
          by_cases z : j = i
          · simp only [pg_ag, if_pos z] at h3
            omega
          · exact ⟨n, i, hi, by rw [ha]; show i + 2 < j + 2; omega⟩
    · rw [pg_D_13 t] at h'
      have b1 := (pg_bd hG hN n _ _ s1 hi).1
      rcases ha : (pg_ev tk nx ln c n).1 (e + 1) i with ⟨_ | _ | j, w, k, p⟩
      · rw [ha] at h'; exact absurd h' (by show ¬ i + 2 < 0; omega)
      · rw [ha] at h'; exact absurd h' (by show ¬ i + 2 < 1; omega)
      · rw [ha] at h' b1
        have b2 := b1 (by simp)
        simp only at b2
        have b3 := b2.2.2 (by omega)
        by_cases z : j = i
        · simp only [pg_pl, if_pos z] at h'
          subst z
          have := pg_pl_i (e := e) (n := n) (by rw [ha]) (by omega)
          omega
        · exact ⟨n, i, hi, by rw [ha]; show i + 2 < j + 2; omega⟩
    · rw [pg_D_14 t] at h'
      rcases ha : (pg_ev tk nx ln c n).1 (e + 1) i with ⟨_ | _ | j, w, k, p⟩
      · rw [ha] at h'; exact absurd h' (by show ¬ i + 2 < 0; omega)
      · rw [ha] at h'; exact absurd h' (by show ¬ i + 2 < i + 2; omega)
      · rw [ha] at h'; exact ⟨n, i, hi, by rw [ha]; exact h'⟩
theorem pg_fl_n (t : tk e = 15 ∨ tk e = 16) : ¬ pg_fl tk nx ln c N e := by
  intro h
  obtain ⟨n, i, hi, h⟩ := h
  cases n with
  | zero => exact absurd h (by show ¬ i + 2 < 0; omega)
  | succ n =>
    have h' : i + 2 < (pg_D tk nx ln c (pg_ev tk nx ln c n).1 (pg_ev tk nx ln c n).2 e i).1 := h
    rcases t with t | t
    · rw [pg_D_15 t] at h'
      revert h'
      rcases (pg_ev tk nx ln c n).1 (e + 1) i with ⟨_ | _ | j, w, k, p⟩ <;> intro h'
      · exact absurd h' (by show ¬ i + 2 < 0; omega)
      · exact absurd h' (by show ¬ i + 2 < 1; omega)
      · exact absurd h' (by show ¬ i + 2 < i + 2; omega)
    · rw [pg_D_16 t] at h'
      revert h'
      rcases (pg_ev tk nx ln c n).1 (e + 1) i with ⟨_ | _ | j, w, k, p⟩ <;> intro h'
      · exact absurd h' (by show ¬ i + 2 < 0; omega)
      · exact absurd h' (by show ¬ i + 2 < i + 2; omega)
      · exact absurd h' (by show ¬ i + 2 < 1; omega)
theorem pg_sq_q {a b : Nat} {r : pg_R} {f : Nat → pg_R} {F1 F2 F : Prop} (ha : 1 ≤ a) (hb : 1 ≤ b) (hm : a + b + 1 ≤ 12) (hN : N ≤ 16) (hi : i ≤ N)
    (hF : F → F1 ∨ F2) (br : pg_Bd N i r) (qr : r.1 ≠ 0 → pg_Q a i F1 r) (bf : ∀ j, r.1 = j + 2 → j ≤ N → pg_Bd N j (f j)) (qf : ∀ j, r.1 = j + 2 → j ≤ N → (f j).1 ≠ 0 → pg_Q b j F2 (f j)) (hz : (pg_sq r f).1 ≠ 0) : pg_Q (a + b + 1) i F (pg_sq r f) := by
  obtain ⟨⟨t1, t2, t3⟩, ⟨t4, t5, t6⟩, ⟨t7, t8, t9, t10⟩, _⟩ := pt_bi ha hb hm (n := 16 - i) (by omega)
  rcases r with ⟨_ | _ | j, w, k, p⟩
  · exact absurd rfl hz
  · obtain ⟨q1, _⟩ := qr (by simp)
    have q1' := q1 (Or.inl rfl)
    simp only at q1'
    refine ⟨fun _ => ?_, fun j hj => absurd hj (by show ¬ 1 = j + 2; omega)⟩
    show k ≤ _ ∧ (F → k ≤ _)
    refine ⟨by omega, fun _ => by omega⟩
  · have b1 := br (by simp)
    simp only at b1
    have b2 := b1.2.2 (by omega)
    have hz' : (f j).1 ≠ 0 := hz
    have b3 := bf j rfl (by omega) hz'
    obtain ⟨p1, p2⟩ := qf j rfl (by omega) hz'
    obtain ⟨q1, q2⟩ := qr (by simp)
    have m1 := pt_m (m := b) (n := 16 - i) (x := 16 - j) (by omega) (by omega) (by omega)
    have m2 := pt_pp' (a := a) (m := a + b + 1) (n := 16 - i) (x := 16 - j) (by omega) hm (by omega) (by omega) ha
    have m3 := pt_m (m := a) (n := 16 - i) (x := 16 - j) (by omega) (by omega) (by omega)
    have m5 := (pt_m (m := a + b + 1) (n := 16 - i) (x := 16 - i) (by omega) (by omega) (by omega)).2.2.2.2.2
    rcases hf : f j with ⟨o, w', k', p'⟩
    rw [hf] at b3 p1 p2 hz'
    simp only at b3 p1 p2 hz'
    have e1 : pg_sq (j + 2, w, k, p) f = (o, max w w', k + k', p ++ p') := by show ((f j).1, max w (f j).2.1, k + (f j).2.2.1, p ++ (f j).2.2.2) = _; rw [hf]
    rw [e1]
    refine ⟨fun ho => ?_, fun j' hj' hij => ?_⟩
    · simp only at ho ⊢
      by_cases z : i < j
      · have q2' := q2 j rfl z
        simp only at q2'
        have ho1 : o = 1 := by
          rcases ho with ho | ho
          · exact ho
          · have := b3.2.2 (by omega)
            omega
        have p1' := p1 (Or.inl ho1)
        refine ⟨by omega, fun _ => by omega⟩
      · obtain rfl : j = i := by omega
        have q1' := q1 (Or.inr rfl)
        simp only at q1'
        have p1' := p1 ho
        refine ⟨by omega, fun hF' => ?_⟩
        rcases hF hF' with y | y
        · have := q1'.2 y
          omega
        · have := p1'.2 y
          omega
    · simp only at hj' ⊢
      subst hj'
      have b4 := b3.2.2 (by omega)
      have m4 := pt_pp' (a := b) (m := a + b + 1) (n := 16 - j) (x := 16 - j') (by omega) hm (by omega) (by omega) hb
      by_cases z : i < j
      · have q2' := q2 j rfl z
        simp only at q2'
        by_cases y : j < j'
        · have p2' := p2 j' rfl y
          omega
        · obtain rfl : j' = j := by omega
          have p1' := p1 (Or.inr rfl)
          omega
      · obtain rfl : j = i := by omega
        have q1' := q1 (Or.inr rfl)
        simp only at q1'
        have p2' := p2 j' rfl hij
        omega
theorem pg_ch_q {a b : Nat} {r s : pg_R} {F1 F2 F : Prop} (ha : 1 ≤ a) (hb : 1 ≤ b) (hm : a + b + 1 ≤ 12) (hN : N ≤ 16) (hi : i ≤ N)
    (hF : F → F1 ∨ F2) (br : pg_Bd N i r) (qr : r.1 ≠ 0 → pg_Q a i F1 r) (bs : pg_Bd N i s) (qs : s.1 ≠ 0 → pg_Q b i F2 s) (hz : (pg_ch r s).1 ≠ 0) : pg_Q (a + b + 1) i F (pg_ch r s) := by
  obtain ⟨⟨t1, t2, t3⟩, ⟨t4, t5, t6⟩, ⟨t7, t8, t9, t10⟩, _⟩ := pt_bi ha hb hm (n := 16 - i) (by omega)
  rcases r with ⟨_ | _ | j, w, k, p⟩
  · exact absurd rfl hz
  · obtain ⟨q1, _⟩ := qr (by simp)
    have q1' := q1 (Or.inl rfl)
    simp only at q1'
    obtain ⟨p1, p2⟩ := qs hz
    rcases s with ⟨o, w', k', p'⟩
    simp only at p1 p2
    show pg_Q (a + b + 1) i F (o, max w w', 1 + k + k', p')
    refine ⟨fun ho => ?_, fun j' hj' hij => ?_⟩
    · simp only at ho ⊢
      have p1' := p1 ho
      refine ⟨by omega, fun hF' => ?_⟩
      rcases hF hF' with y | y
      · have := q1'.2 y
        omega
      · have := p1'.2 y
        omega
    · simp only at hj' ⊢
      have p2' := p2 j' hj' hij
      have b1 := bs hz
      simp only at b1
      have b2 := b1.2.2 (by omega)
      have m4 := pt_pp' (a := b) (m := a + b + 1) (n := 16 - i) (x := 16 - j') (by omega) hm (by omega) (by omega) hb
      omega
  · have b1 := br (by simp)
    simp only at b1
    have b2 := b1.2.2 (by omega)
    obtain ⟨q1, q2⟩ := qr (by simp)
    simp only at q1 q2
    show pg_Q (a + b + 1) i F (j + 2, w, 2 + k, p)
    refine ⟨fun ho => ?_, fun j' hj' hij => ?_⟩
    · simp only at ho ⊢
      have q1' := q1 ho
      refine ⟨by omega, fun _ => by omega⟩
    · simp only at hj' ⊢
      have q2' := q2 j' hj' hij
      have m4 := pt_pp' (a := a) (m := a + b + 1) (n := 16 - i) (x := 16 - j') (by omega) hm (by omega) (by omega) ha
      omega
/-- repetition: the figure for the rounds from here -/
def pg_QA (b i : Nat) (fl : Prop) (r : pg_R) : Prop :=
  (r.1 = i + 2 → r.2.2.1 ≤ pt_Z 0 b (16 - i) + 1 ∧ (fl → r.2.2.1 ≤ pt_Z 1 b (16 - i) + 1)) ∧
  (∀ j, r.1 = j + 2 → i < j → r.2.2.1 + pt_P (b + 1) (16 - j) ≤ pt_Z 1 b (16 - i) + 1 + pt_P (b + 1) (16 - i))
theorem pg_ag_q {b : Nat} {r : pg_R} {f : Nat → pg_R} {F1 : Prop} (hb : 1 ≤ b) (hm : b + 1 ≤ 12) (hN : N ≤ 16) (hi : i ≤ N)
    (hF1 : i + 2 < r.1 → F1) (br : pg_Bd N i r) (qr : r.1 ≠ 0 → pg_Q b i F1 r) (bf : ∀ j, r.1 = j + 2 → j ≤ N → pg_Bd N j (f j) ∧ ((f j).1 ≠ 0 → 2 ≤ (f j).1)) (qf : ∀ j, r.1 = j + 2 → j ≤ N → (f j).1 ≠ 0 → pg_QA b j F1 (f j)) (hz : (pg_ag i r f).1 ≠ 0) : pg_QA b i F1 (pg_ag i r f) := by
  rcases r with ⟨_ | _ | j, w, k, p⟩
  · exact absurd rfl hz
  · obtain ⟨q1, _⟩ := qr (by simp)
    have q1' := q1 (Or.inl rfl)
    simp only at q1'
    show pg_QA b i F1 (i + 2, w, k, [])
    refine ⟨fun _ => ⟨by simp only; omega, fun y => by have := q1'.2 y; simp only; omega⟩, fun j' hj' hij => ?_⟩
    simp only at hj'
    omega
  · have b1 := br (by simp)
    simp only at b1
    have b2 := b1.2.2 (by omega)
    obtain ⟨q1, q2⟩ := qr (by simp)
    simp only at q1 q2
    by_cases z : j = i
    · simp only [pg_ag, if_pos z]
      subst z
      have q1' := q1 (Or.inr rfl)
      refine ⟨fun _ => ⟨by simp only; omega, fun y => by have := q1'.2 y; simp only; omega⟩, fun j' hj' hij => ?_⟩
      simp only at hj'
      omega
    · simp only [pg_ag, if_neg z] at hz ⊢
      have hF := hF1 (by show i + 2 < j + 2; omega)
      have q2' := q2 j rfl (by omega)
      obtain ⟨b3, b4⟩ := bf j rfl (by omega)
      have b5 := b3 hz
      have b6 := b5.2.2 (b4 hz)
      obtain ⟨p1, p2⟩ := qf j rfl (by omega) hz
      have m1 := (pt_rn hb hm (n := 16 - i) (x := 16 - j) (by omega) (by omega)).1
      have m2 := pt_m (m := b) (n := 16 - i) (x := 16 - j) (by omega) (by omega) (by omega)
      rcases hf : f j with ⟨o, w', k', p'⟩
      rw [hf] at b6 p1 p2
      simp only at b6 p1 p2 ⊢
      refine ⟨fun ho => by simp only at ho; omega, fun j' hj' hij => ?_⟩
      simp only at hj' ⊢
      by_cases y : j < j'
      · have := p2 j' hj' y
        omega
      · obtain rfl : j' = j := by omega
        have := (p1 hj').2 hF
        omega
theorem pg_st_q {b : Nat} {r : pg_R} {F1 F : Prop} (hb : 1 ≤ b) (hm : b + 1 ≤ 12) (hN : N ≤ 16) (hi : i ≤ N)
    (hF : F → F1) (b0 : pg_Bd N i r) (br : r.1 ≠ 0 → 2 ≤ r.1) (qr : r.1 ≠ 0 → pg_QA b i F1 r) (hz : (pg_st r).1 ≠ 0) : pg_Q (b + 1) i F (pg_st r) := by
  obtain ⟨t1, t2, t3, t4, t5, _⟩ := pt_un hb hm (n := 16 - i) (by omega)
  rcases r with ⟨o, w, k, p⟩
  have hz' : o ≠ 0 := hz
  have := br hz'
  obtain ⟨q1, q2⟩ := qr hz'
  simp only at this q1 q2
  show pg_Q (b + 1) i F (o, w, k + 1, p)
  refine ⟨fun ho => ?_, fun j' hj' hij => ?_⟩
  · simp only at ho ⊢
    have q1' := q1 (by omega)
    exact ⟨by omega, fun y => by have := q1'.2 (hF y); omega⟩
  · simp only at hj' ⊢
    have := q2 j' hj' hij
    omega
theorem pg_pl_q {b : Nat} {r : pg_R} {f : Nat → pg_R} {F1 F : Prop} (hb : 1 ≤ b) (hm : b + 1 ≤ 12) (hN : N ≤ 16) (hi : i ≤ N)
    (hF : F → F1) (hF1 : i + 2 < r.1 → F1) (br : pg_Bd N i r) (qr : r.1 ≠ 0 → pg_Q b i F1 r) (hii : r.1 = i + 2 → (f i).1 ≠ 0 → (f i).1 = i + 2) (bf : ∀ j, r.1 = j + 2 → j ≤ N → pg_Bd N j (f j) ∧ ((f j).1 ≠ 0 → 2 ≤ (f j).1)) (qf : ∀ j, r.1 = j + 2 → j ≤ N → (f j).1 ≠ 0 → pg_QA b j F1 (f j)) (hz : (pg_pl i r f).1 ≠ 0) : pg_Q (b + 1) i F (pg_pl i r f) := by
  obtain ⟨t1, t2, t3, t4, t5, _⟩ := pt_un hb hm (n := 16 - i) (by omega)
  rcases r with ⟨_ | _ | j, w, k, p⟩
  · exact absurd rfl hz
  · obtain ⟨q1, _⟩ := qr (by simp)
    have q1' := q1 (Or.inl rfl)
    simp only at q1'
    show pg_Q (b + 1) i F (1, w, k + 2, [])
    refine ⟨fun _ => ⟨by simp only; omega, fun y => by have := q1'.2 (hF y); simp only; omega⟩, fun j' hj' hij => ?_⟩
    simp only at hj'
    omega
  · have b1 := br (by simp)
    simp only at b1
    have b2 := b1.2.2 (by omega)
    obtain ⟨q1, q2⟩ := qr (by simp)
    simp only at q1 q2
    by_cases z : j = i
    · simp only [pg_pl, if_pos z] at hz ⊢
      subst z
      have q1' := q1 (Or.inr rfl)
      have := hii rfl hz
      refine ⟨fun _ => ⟨by simp only; omega, fun y => by have := q1'.2 (hF y); simp only; omega⟩, fun j' hj' hij => ?_⟩
      simp only at hj'
      omega
    · simp only [pg_pl, if_neg z] at hz ⊢
      have hF' := hF1 (by show i + 2 < j + 2; omega)
      have q2' := q2 j rfl (by omega)
      obtain ⟨b3, b4⟩ := bf j rfl (by omega)
      have b5 := b3 hz
      have b6 := b5.2.2 (b4 hz)
      obtain ⟨p1, p2⟩ := qf j rfl (by omega) hz
      have m1 := (pt_rn hb hm (n := 16 - i) (x := 16 - j) (by omega) (by omega)).1
      have m2 := pt_m (m := b) (n := 16 - i) (x := 16 - j) (by omega) (by omega) (by omega)
      rcases hf : f j with ⟨o, w', k', p'⟩
      rw [hf] at b6 p1 p2
      simp only at b6 p1 p2 ⊢
      refine ⟨fun ho => by simp only at ho; omega, fun j' hj' hij => ?_⟩
      simp only at hj' ⊢
      by_cases y : j < j'
      · have := p2 j' hj' y
        omega
      · obtain rfl : j' = j := by omega
        have := (p1 hj').2 hF'
        omega
theorem pg_op_q {b : Nat} {r : pg_R} {F1 F : Prop} (hb : 1 ≤ b) (hm : b + 1 ≤ 12) (hN : N ≤ 16) (hi : i ≤ N)
    (hF : F → F1) (br : pg_Bd N i r) (qr : r.1 ≠ 0 → pg_Q b i F1 r) (hz : (pg_op i r).1 ≠ 0) : pg_Q (b + 1) i F (pg_op i r) := by
  obtain ⟨t1, t2, t3, t4, t5, _⟩ := pt_un hb hm (n := 16 - i) (by omega)
  rcases r with ⟨_ | _ | j, w, k, p⟩
  · exact absurd rfl hz
  · obtain ⟨q1, _⟩ := qr (by simp)
    have q1' := q1 (Or.inl rfl)
    simp only at q1'
    show pg_Q (b + 1) i F (i + 2, w, k + 1, [])
    refine ⟨fun _ => ⟨by simp only; omega, fun y => by have := q1'.2 (hF y); simp only; omega⟩, fun j' hj' hij => ?_⟩
    simp only at hj'
    omega
  · have b1 := br (by simp)
    simp only at b1
    have b2 := b1.2.2 (by omega)
    obtain ⟨q1, q2⟩ := qr (by simp)
    simp only at q1 q2
    show pg_Q (b + 1) i F (j + 2, w, k + 2, p)
    refine ⟨fun ho => ?_, fun j' hj' hij => ?_⟩
    · simp only at ho ⊢
      have q1' := q1 ho
      exact ⟨by omega, fun y => by have := q1'.2 (hF y); omega⟩
    · simp only at hj' ⊢
      have q2' := q2 j' hj' hij
      have m4 := pt_pp' (a := b) (m := b + 1) (n := 16 - i) (x := 16 - j') (by omega) hm (by omega) (by omega) hb
      omega
theorem pg_an_q {b : Nat} {r : pg_R} {F1 F : Prop} (hb : 1 ≤ b) (hm : b + 1 ≤ 12) (hN : N ≤ 16) (hi : i ≤ N)
    (hF : ¬ F) (br : pg_Bd N i r) (qr : r.1 ≠ 0 → pg_Q b i F1 r) : ((pg_an i r).1 ≠ 0 → pg_Q (b + 1) i F (pg_an i r)) ∧ ((pg_nt i r).1 ≠ 0 → pg_Q (b + 1) i F (pg_nt i r)) := by
  obtain ⟨t1, t2, t3, t4, t5, _⟩ := pt_un hb hm (n := 16 - i) (by omega)
  rcases r with ⟨_ | _ | j, w, k, p⟩
  · exact ⟨fun hz => absurd rfl hz, fun hz => absurd rfl hz⟩
  · obtain ⟨q1, _⟩ := qr (by simp)
    have q1' := q1 (Or.inl rfl)
    simp only at q1'
    refine ⟨fun _ => ?_, fun _ => ?_⟩
    · show pg_Q (b + 1) i F (1, w, k + 2, [])
      refine ⟨fun _ => ⟨by simp only; omega, fun y => absurd y hF⟩, fun j' hj' hij => ?_⟩
      simp only at hj'
      omega
    · show pg_Q (b + 1) i F (i + 2, w, k + 1, [])
      refine ⟨fun _ => ⟨by simp only; omega, fun y => absurd y hF⟩, fun j' hj' hij => ?_⟩
      simp only at hj'
      omega
  · have b1 := br (by simp)
    simp only at b1
    have b2 := b1.2.2 (by omega)
    obtain ⟨q1, q2⟩ := qr (by simp)
    simp only at q1 q2
    have hk : k + 2 ≤ pt_Z 0 (b + 1) (16 - i) := by
      by_cases z : i < j
      · have := q2 j rfl z
        omega
      · have := q1 (Or.inr (by omega))
        omega
    refine ⟨fun _ => ?_, fun _ => ?_⟩
    · show pg_Q (b + 1) i F (i + 2, w, k + 2, [])
      refine ⟨fun _ => ⟨hk, fun y => absurd y hF⟩, fun j' hj' hij => ?_⟩
      simp only at hj'
      omega
    · show pg_Q (b + 1) i F (1, w, k + 2, [])
      refine ⟨fun _ => ⟨hk, fun y => absurd y hF⟩, fun j' hj' hij => ?_⟩
      simp only at hj'
      omega
theorem pg_lf_q {m : Nat} {F : Prop} {r : pg_R} (hm : m = 1 ∨ m = 3) (hm2 : r.2.2.1 ≤ 1) (hb : pg_Bd 16 i r) (hi : i ≤ 16) (hz : r.1 ≠ 0) : pg_Q m i F r := by
  have t := pt_lf hm (n := 16 - i) (by omega)
  refine ⟨fun _ => ⟨by omega, fun _ => by omega⟩, fun j' hj' hij => ?_⟩
  have b1 := hb hz
  have b2 := b1.2.2 (by omega)
  have m4 := pt_m (m := m) (n := 16 - i) (x := 16 - j') (by omega) (by omega) (by omega)
  omega
theorem pg_cost (hG : pg_G tk nx ln) (hN : ∀ x, N ≤ x → c x = 0) (hN16 : N ≤ 16) (n : Nat) : ∀ e i, pg_C nx ln e → i ≤ N →
    (((pg_ev tk nx ln c n).1 e i).1 ≠ 0 → pg_Q (nx e - e) i (pg_fl tk nx ln c N e) ((pg_ev tk nx ln c n).1 e i)) ∧
    ((tk e = 12 ∨ tk e = 13) → ((pg_ev tk nx ln c n).2 e i).1 ≠ 0 → pg_QA (nx (e + 1) - (e + 1)) i (pg_fl tk nx ln c N (e + 1)) ((pg_ev tk nx ln c n).2 e i)) := by
  induction n with
  | zero => exact fun e i _ _ => ⟨fun h => absurd rfl h, fun _ h => absurd rfl h⟩
  | succ n ih =>
    intro e i he hi
    have hs := pg_C_s hG he
    have hv := pg_C_v hG he
    constructor
    · show (pg_D tk nx ln c (pg_ev tk nx ln c n).1 (pg_ev tk nx ln c n).2 e i).1 ≠ 0 → pg_Q (nx e - e) i (pg_fl tk nx ln c N e) (pg_D tk nx ln c (pg_ev tk nx ln c n).1 (pg_ev tk nx ln c n).2 e i)
      intro hz
      rcases pg_tc hv.1 with t | t | t | t | t | t | t | t | ⟨r, hr, t⟩ | t
      · rw [pg_D_2 t]
        have := hv.2.2.2 (by omega)
        refine pg_lf_q (by omega) (by show 0 ≤ 1; omega) (fun _ => ?_) (by omega) (by show i + 2 ≠ 0; omega)
        show i ≤ i ∧ i ≤ 16 + 1 ∧ (2 ≤ i + 2 → i + 2 ≤ i + 2 ∧ i + 2 ≤ i + 2 ∧ i + 2 ≤ 16 + 2)
        omega
      · rw [pg_D_10 t] at hz ⊢
        obtain ⟨s1, s2, s3, s4, s5⟩ := pg_C_b hG he (Or.inl t)
        have := pg_sq_q (a := nx (e + 1) - (e + 1)) (b := nx (nx (e + 1)) - nx (e + 1)) (by omega) (by omega) (by omega) hN16 hi (pg_fl_b hG hN he (Or.inl t)) (pg_bd hG hN n _ _ s1 hi).1 (ih _ _ s1 hi).1 (fun j _ hj => (pg_bd hG hN n _ _ s2 hj).1) (fun j _ hj => (ih _ _ s2 hj).1) hz
        rw [show nx (e + 1) - (e + 1) + (nx (nx (e + 1)) - nx (e + 1)) + 1 = nx e - e by omega] at this
        exact this
      · rw [pg_D_11 t] at hz ⊢
        obtain ⟨s1, s2, s3, s4, s5⟩ := pg_C_b hG he (Or.inr t)
        have := pg_ch_q (a := nx (e + 1) - (e + 1)) (b := nx (nx (e + 1)) - nx (e + 1)) (by omega) (by omega) (by omega) hN16 hi (pg_fl_b hG hN he (Or.inr t)) (pg_bd hG hN n _ _ s1 hi).1 (ih _ _ s1 hi).1 (pg_bd hG hN n _ _ s2 hi).1 (ih _ _ s2 hi).1 hz
        rw [show nx (e + 1) - (e + 1) + (nx (nx (e + 1)) - nx (e + 1)) + 1 = nx e - e by omega] at this
        exact this
      · rw [pg_D_12 t] at hz ⊢
        obtain ⟨s1, s2, s3⟩ := pg_C_u hG he (by omega)
        have := pg_st_q (b := nx (e + 1) - (e + 1)) (by omega) (by omega) hN16 hi (pg_fl_u hG hN he (Or.inl t)) ((pg_bd hG hN n _ _ he hi).2 (Or.inl t)).1 ((pg_bd hG hN n _ _ he hi).2 (Or.inl t)).2 ((ih _ _ he hi).2 (Or.inl t)) hz
        rw [show nx (e + 1) - (e + 1) + 1 = nx e - e by omega] at this
        exact this
      · rw [pg_D_13 t] at hz ⊢
        obtain ⟨s1, s2, s3⟩ := pg_C_u hG he (by omega)
        have := pg_pl_q (b := nx (e + 1) - (e + 1)) (by omega) (by omega) hN16 hi (pg_fl_u hG hN he (Or.inr (Or.inl t))) (fun y => ⟨n, i, hi, y⟩) (pg_bd hG hN n _ _ s1 hi).1 (ih _ _ s1 hi).1 (fun y y2 => pg_pl_i y y2) (fun j _ hj => (pg_bd hG hN n _ _ he hj).2 (Or.inr t)) (fun j _ hj => (ih _ _ he hj).2 (Or.inr t)) hz
        rw [show nx (e + 1) - (e + 1) + 1 = nx e - e by omega] at this
        exact this
      · rw [pg_D_14 t] at hz ⊢
        obtain ⟨s1, s2, s3⟩ := pg_C_u hG he (by omega)
        have := pg_op_q (b := nx (e + 1) - (e + 1)) (by omega) (by omega) hN16 hi (pg_fl_u hG hN he (Or.inr (Or.inr t))) (pg_bd hG hN n _ _ s1 hi).1 (ih _ _ s1 hi).1 hz
        rw [show nx (e + 1) - (e + 1) + 1 = nx e - e by omega] at this
        exact this
      · rw [pg_D_15 t] at hz ⊢
        obtain ⟨s1, s2, s3⟩ := pg_C_u hG he (by omega)
        have := (pg_an_q (b := nx (e + 1) - (e + 1)) (by omega) (by omega) hN16 hi (pg_fl_n (nx := nx) (ln := ln) (c := c) (N := N) (Or.inl t)) (pg_bd hG hN n _ _ s1 hi).1 (ih _ _ s1 hi).1).1 hz
        rw [show nx (e + 1) - (e + 1) + 1 = nx e - e by omega] at this
        exact this
      · rw [pg_D_16 t] at hz ⊢
        obtain ⟨s1, s2, s3⟩ := pg_C_u hG he (by omega)
        have := (pg_an_q (b := nx (e + 1) - (e + 1)) (by omega) (by omega) hN16 hi (pg_fl_n (nx := nx) (ln := ln) (c := c) (N := N) (Or.inr t)) (pg_bd hG hN n _ _ s1 hi).1 (ih _ _ s1 hi).1).2 hz
        rw [show nx (e + 1) - (e + 1) + 1 = nx e - e by omega] at this
        exact this
      · have e1 := hv.2.2.2 (by omega)
        have b0 := (pg_bd hG hN (n + 1) e i he hi).1
        have b1 : pg_Bd N i (pg_D tk nx ln c (pg_ev tk nx ln c n).1 (pg_ev tk nx ln c n).2 e i) := b0
        refine pg_lf_q (by omega) ?_ (fun y => ?_) (by omega) hz
        · rw [pg_D_c hr t]
          by_cases hl : ln r = 0
          · rw [if_pos hl]
            exact Nat.le_refl 1
          · rw [if_neg hl]
            rcases (pg_ev tk nx ln c n).1 (12 * r) i with ⟨_ | _ | j, w, k, p⟩
            · exact Nat.zero_le 1
            · exact Nat.le_refl 1
            · exact Nat.le_refl 1
        · have := b1 y
          omega
      · have e1 : nx e - e = 1 ∨ nx e - e = 3 := by
          rcases t with t | t | t
          · have := hv.2.2.2 (by omega)
            omega
          · have := hv.2.2.1 t
            omega
          · have := hv.2.2.2 (by omega)
            omega
        have b0 := (pg_bd hG hN (n + 1) e i he hi).1
        have b1 : pg_Bd N i (pg_D tk nx ln c (pg_ev tk nx ln c n).1 (pg_ev tk nx ln c n).2 e i) := b0
        refine pg_lf_q e1 ?_ (fun y => ?_) (by omega) hz
        · rw [pg_D_l t]
          unfold pg_le
          by_cases g : pg_gd tk (c i) e = true
          · rw [if_pos g]
            exact Nat.le_refl 1
          · rw [if_neg g]
            exact Nat.le_refl 1
        · have := b1 y
          omega
    · intro t hz
      obtain ⟨s1, s2, s3⟩ := pg_C_u hG he (by omega)
      exact pg_ag_q (b := nx (e + 1) - (e + 1)) (by omega) (by omega) hN16 hi (fun y => ⟨n, i, hi, y⟩) (pg_bd hG hN n _ _ s1 hi).1 (ih _ _ s1 hi).1 (fun j _ hj => (pg_bd hG hN n _ _ he hj).2 t) (fun j _ hj => (ih _ _ he hj).2 t) hz
end
end
section
/-! the machine: its stack as a list, its parts as a list; the printed walks as rules -/
theorem xb_b {x : Nat} (h : x < 128) : vp_nar .byte (nI x).toInt8.toInt32 = nI x := by
  rw [pk_vb]
  exact lg_i2b_small (by rw [nI_toInt (by omega)]; omega) (by rw [nI_toInt (by omega)]; omega)
theorem xb_s {x : Nat} (h : x < 32768) : vp_nar .short (nI x).toInt16.toInt32 = nI x := by
  rw [pk_vs]
  exact lg_i2s_small (by rw [nI_toInt (by omega)]; omega) (by rw [nI_toInt (by omega)]; omega)
theorem xb_m2 : vp_nar .byte (-2 : Int32).toInt8.toInt32 = -2 := by rw [pk_vb]; decide
theorem xb_m2' : vp_nar .byte (-2 : Int32) = -2 := by rw [vp_nar_byte]; decide
theorem xb_m9 : vp_nar .byte (-9 : Int32) = -9 := by rw [vp_nar_byte]; decide
theorem xb_0 : vp_nar .boolean (0 : Int32) = 0 := rfl
theorem xb_1 : vp_nar .boolean (1 : Int32) = 1 := rfl
theorem xb_in {x N : Nat} (h : x < N) (hN : N ≤ 820) : vp_in (nI x) N := vp_in_nI h (by omega)
theorem xb_c {x : Nat} (h : x ≤ 4000) : (nI x).toNatClampNeg = x := nI_clamp (by omega)
abbrev xm_Fr : Type := Nat × Nat × Nat × Int32
def xm_S : List xm_Fr → (Nat → Int32) → (Nat → Int32) → (Nat → Int32) → (Nat → Int32) → Prop
  | [], _, _, _, _ => True
  | (a, b, c, d) :: S, g, w, th, fo => (g S.length = nI a ∧ w S.length = nI b ∧ th S.length = nI c ∧ fo S.length = d) ∧ xm_S S g w th fo
theorem xm_S_k {g w th fo g' w' th' fo' : Nat → Int32} : ∀ (S : List xm_Fr), (∀ x, x < S.length → g' x = g x ∧ w' x = w x ∧ th' x = th x ∧ fo' x = fo x) → xm_S S g w th fo → xm_S S g' w' th' fo'
  | [], _, _ => trivial
  | (a, b, c, d) :: S, h, hs => by
    obtain ⟨⟨h1, h2, h3, h4⟩, h5⟩ := hs
    have hl : S.length < ((a, b, c, d) :: S).length := Nat.lt_succ_self _
    obtain ⟨e1, e2, e3, e4⟩ := h S.length hl
    exact ⟨⟨e1.trans h1, e2.trans h2, e3.trans h3, e4.trans h4⟩, xm_S_k S (fun x hx => h x (Nat.lt_trans hx hl)) h5⟩
theorem xm_S_p {S : List xm_Fr} {g w th fo : Nat → Int32} {a b c : Nat} {d : Int32} (h : xm_S S g w th fo) : xm_S ((a, b, c, d) :: S) (upd g S.length (nI a)) (upd w S.length (nI b)) (upd th S.length (nI c)) (upd fo S.length d) :=
  ⟨⟨pk_us, pk_us, pk_us, pk_us⟩, xm_S_k S (fun x hx => ⟨pk_un (by omega), pk_un (by omega), pk_un (by omega), pk_un (by omega)⟩) h⟩
def xm_P (L : List (Nat × Nat)) (pa pe : Nat → Int32) : Prop := L.length ≤ 30 ∧ ∀ x y, L[x]? = some y → pa x = nI y.1 ∧ pe x = nI y.2
theorem xm_P_t {L : List (Nat × Nat)} {pa pe : Nat → Int32} {k : Nat} (h : xm_P L pa pe) : xm_P (L.take k) pa pe :=
  ⟨by rw [List.length_take]; have := h.1; omega, fun x y hx => h.2 x y (by
    rw [List.getElem?_take] at hx
    split at hx
    · exact hx
    · exact absurd hx (by simp))⟩
theorem xm_P_a {L : List (Nat × Nat)} {pa pe : Nat → Int32} {q j : Nat} (h : xm_P L pa pe) (hl : L.length < 30) : xm_P (L ++ [(q, j)]) (upd pa L.length (nI q)) (upd pe L.length (nI j)) := by
  refine ⟨by rw [List.length_append]; show L.length + 1 ≤ 30; omega, fun x y hx => ?_⟩
  by_cases z : x < L.length
  · rw [List.getElem?_append_left z] at hx
    rw [pk_un (by omega), pk_un (by omega)]
    exact h.2 x y hx
  · rw [List.getElem?_append_right (by omega)] at hx
    have hx0 : x = L.length := by
      rcases Nat.lt_or_ge (x - L.length) 1 with y | y
      · omega
      · rw [List.getElem?_eq_none (by simpa using y)] at hx
        exact absurd hx (by simp)
    subst hx0
    rw [Nat.sub_self] at hx
    have : y = (q, j) := by simpa using hx.symm
    subst this
    exact ⟨pk_us, pk_us⟩
/-! fields that a run of the machine leaves alone -/
def xm_go (post : SX → Prop) (n t : Nat) (u : SX) : Prop := match u with
  | (f_pendingCount, f_length, f_sp, f_pc, f_at, f_far, f_silence, f_depth, f_count, f_treeNodes, f_emitted, f_listing, f_stuck, a_pending, a_text, a_operation, a_operand, a_opens, a_stage, a_hole, a_kept, a_looked, a_active, a_goOn, a_where, a_third, a_fourth, a_treeRule, a_treeStart, a_treeEnd, a_treeDepth, a_part, a_partEnd) => wX_go_2 post n (nI t) f_pendingCount f_length f_sp f_pc f_at f_far f_silence f_depth f_count f_treeNodes f_emitted f_listing f_stuck a_pending a_text a_operation a_operand a_opens a_stage a_hole a_kept a_looked a_active a_goOn a_where a_third a_fourth a_treeRule a_treeStart a_treeEnd a_treeDepth a_part a_partEnd
section
variable {post : SX → Prop} {n t pc : Nat} {f_pendingCount f_length f_sp f_pc f_at f_far f_silence f_depth f_count f_treeNodes f_emitted f_listing f_stuck : Int32} {a_pending a_text a_operation a_operand a_opens a_stage a_hole a_kept a_looked a_active a_goOn a_where a_third a_fourth a_treeRule a_treeStart a_treeEnd a_treeDepth a_part a_partEnd : Nat → Int32}
theorem xm_hd (ht : t < 4000000) (hpc : pc < 160)
    (k : ∀ P : SX → Prop, (∀ u : SX, xm_go post n (t + 1) u → P u) → wpX_step P (f_pendingCount, f_length, f_sp, nI pc, f_at, f_far, f_silence, f_depth, f_count, f_treeNodes, f_emitted, f_listing, 0, a_pending, a_text, a_operation, a_operand, a_opens, a_stage, a_hole, a_kept, a_looked, a_active, a_goOn, a_where, a_third, a_fourth, a_treeRule, a_treeStart, a_treeEnd, a_treeDepth, a_part, a_partEnd)) : wX_go_2 post (n + 1) (nI t) f_pendingCount f_length f_sp (nI pc) f_at f_far f_silence f_depth f_count f_treeNodes f_emitted f_listing 0 a_pending a_text a_operation a_operand a_opens a_stage a_hole a_kept a_looked a_active a_goOn a_where a_third a_fourth a_treeRule a_treeStart a_treeEnd a_treeDepth a_part a_partEnd :=
  br_f (nI_ge (b := 4000000) ht (by decide)) (br_f (nI_pos (by omega)) (br_t rfl (k _ (fun ⟨y1, y2, y3, y4, y5, y6, y7, y8, y9, y10, y11, y12, y13, y14, y15, y16, y17, y18, y19, y20, y21, y22, y23, y24, y25, y26, y27, y28, y29, y30, y31, y32, y33⟩ h => nm_r (nI_1 t) h))))
end
def xm_GG (post : SX → Prop) (f_pendingCount f_length f_treeNodes f_emitted f_listing : Int32) (a_pending a_text a_operation a_operand a_opens a_stage a_hole a_treeRule a_treeStart a_treeEnd a_treeDepth : Nat → Int32) (t : Nat) (S : List xm_Fr) (pc ps far : Nat) (sil : Int32) (dep : Nat) (L : List (Nat × Nat)) (kp lk ac : Nat → Int32) : Prop :=
  ∀ (g w th fo pa pe : Nat → Int32) (n : Nat), xm_S S g w th fo → xm_P L pa pe → 4000001 ≤ n + t → wX_go_2 post n (nI t) f_pendingCount f_length (nI S.length) (nI pc) (nI ps) (nI far) sil (nI dep) (nI L.length) f_treeNodes f_emitted f_listing 0 a_pending a_text a_operation a_operand a_opens a_stage a_hole kp lk ac g w th fo a_treeRule a_treeStart a_treeEnd a_treeDepth pa pe
def xm_FF (post : SX → Prop) (f_pendingCount f_length f_treeNodes f_emitted f_listing : Int32) (a_pending a_text a_operation a_operand a_opens a_stage a_hole a_treeRule a_treeStart a_treeEnd a_treeDepth : Nat → Int32) (t : Nat) (S : List xm_Fr) (far : Nat) (dep : Nat) (L : List (Nat × Nat)) (kp lk ac : Nat → Int32) : Prop :=
  ∀ (pc ps sil : Int32) (g w th fo pa pe : Nat → Int32) (n : Nat), xm_S S g w th fo → xm_P L pa pe → 4000001 ≤ n + (t + 1) → ∀ P : SX → Prop, (∀ u : SX, xm_go post n (t + 1) u → P u) → wpX_fail P (f_pendingCount, f_length, nI S.length, pc, ps, nI far, sil, nI dep, nI L.length, f_treeNodes, f_emitted, f_listing, 0, a_pending, a_text, a_operation, a_operand, a_opens, a_stage, a_hole, kp, lk, ac, g, w, th, fo, a_treeRule, a_treeStart, a_treeEnd, a_treeDepth, pa, pe)
/-- the end of a run -/
def xm_EN (post : SX → Prop) (f_pendingCount f_length f_treeNodes f_emitted f_listing : Int32) (a_pending a_text a_operation a_operand a_opens a_stage a_hole a_treeRule a_treeStart a_treeEnd a_treeDepth : Nat → Int32) (L : List (Nat × Nat)) (kp lk ac : Nat → Int32) : Prop :=
  ∀ (ps far sil dep : Int32) (g w th fo pa pe : Nat → Int32), xm_P L pa pe → post (f_pendingCount, f_length, 0, (-1), ps, far, sil, dep, nI L.length, f_treeNodes, f_emitted, f_listing, 0, a_pending, a_text, a_operation, a_operand, a_opens, a_stage, a_hole, kp, lk, ac, g, w, th, fo, a_treeRule, a_treeStart, a_treeEnd, a_treeDepth, pa, pe)
/-- stuck -/
def xm_SK (post : SX → Prop) (f_pendingCount f_length f_treeNodes f_emitted f_listing : Int32) (a_pending a_text a_operation a_operand a_opens a_stage a_hole a_treeRule a_treeStart a_treeEnd a_treeDepth : Nat → Int32) (kp lk : Nat → Int32) : Prop :=
  ∀ (sp pc ps far sil dep cn : Int32) (ac g w th fo pa pe : Nat → Int32), post (f_pendingCount, f_length, sp, pc, ps, far, sil, dep, cn, f_treeNodes, f_emitted, f_listing, 1, a_pending, a_text, a_operation, a_operand, a_opens, a_stage, a_hole, kp, lk, ac, g, w, th, fo, a_treeRule, a_treeStart, a_treeEnd, a_treeDepth, pa, pe)
section
variable {P : SX → Prop} {f_pendingCount f_length f_sp f_pc f_at f_far f_silence f_depth f_count f_treeNodes f_emitted f_listing f_stuck : Int32} {a_pending a_text a_operation a_operand a_opens a_stage a_hole a_kept a_looked a_active a_goOn a_where a_third a_fourth a_treeRule a_treeStart a_treeEnd a_treeDepth a_part a_partEnd : Nat → Int32}
theorem xp_push {sp a b c : Nat} {d d' : Int32} (hsp : sp < 820) (ha : a < 32768) (hb : b < 32768) (hc : c < 128) (hd : vp_nar .byte d.toInt8.toInt32 = d')
    (k : P (f_pendingCount, f_length, nI (sp + 1), f_pc, f_at, f_far, f_silence, f_depth, f_count, f_treeNodes, f_emitted, f_listing, f_stuck, a_pending, a_text, a_operation, a_operand, a_opens, a_stage, a_hole, a_kept, a_looked, a_active, upd a_goOn sp (nI a), upd a_where sp (nI b), upd a_third sp (nI c), upd a_fourth sp d', a_treeRule, a_treeStart, a_treeEnd, a_treeDepth, a_part, a_partEnd)) : wpX_push P (f_pendingCount, f_length, nI sp, f_pc, f_at, f_far, f_silence, f_depth, f_count, f_treeNodes, f_emitted, f_listing, f_stuck, a_pending, a_text, a_operation, a_operand, a_opens, a_stage, a_hole, a_kept, a_looked, a_active, a_goOn, a_where, a_third, a_fourth, a_treeRule, a_treeStart, a_treeEnd, a_treeDepth, a_part, a_partEnd) (nI a) (nI b) (nI c) d :=
  have i : vp_in (nI sp) 820 := xb_in hsp (Nat.le_refl _)
  have e : (nI sp).toNatClampNeg = sp := xb_c (by omega)
  And.intro i (nm_r (e' := upd a_goOn sp (nI a)) (by rw [e, xb_s ha]) (And.intro i (nm_r (e' := upd a_where sp (nI b)) (by rw [e, xb_s hb]) (And.intro i (nm_r (e' := upd a_third sp (nI c)) (by rw [e, xb_b hc]) (nm_r (nI_1 sp) (And.intro i (nm_r (e' := upd a_fourth sp d') (by rw [e, hd]) k))))))))
theorem xp_match {Q : Int32 → SX → Prop} {ps far N lo hi x : Nat} {c : Nat → Nat} (hN : N ≤ 16) (hps : ps ≤ N) (hfar : far ≤ 17) (hlo : lo < 128) (hhi : hi < 128) (hx : x = lo * 128 + hi) (hc : ∀ j, j < N → a_text j = nI (c j) ∧ c j < 128)
    (k0 : ¬ (ps < N ∧ lo ≤ c ps ∧ c ps ≤ hi) → Q 0 (f_pendingCount, nI N, f_sp, f_pc, nI ps, nI (max far (ps + 1)), f_silence, f_depth, f_count, f_treeNodes, f_emitted, f_listing, f_stuck, a_pending, a_text, a_operation, a_operand, a_opens, a_stage, a_hole, a_kept, a_looked, a_active, a_goOn, a_where, a_third, a_fourth, a_treeRule, a_treeStart, a_treeEnd, a_treeDepth, a_part, a_partEnd))
    (k1 : (ps < N ∧ lo ≤ c ps ∧ c ps ≤ hi) → Q 1 (f_pendingCount, nI N, f_sp, f_pc, nI ps, nI (max far (ps + 1)), f_silence, f_depth, f_count, f_treeNodes, f_emitted, f_listing, f_stuck, a_pending, a_text, a_operation, a_operand, a_opens, a_stage, a_hole, a_kept, a_looked, a_active, a_goOn, a_where, a_third, a_fourth, a_treeRule, a_treeStart, a_treeEnd, a_treeDepth, a_part, a_partEnd)) : wpX_matches Q (f_pendingCount, nI N, f_sp, f_pc, nI ps, nI far, f_silence, f_depth, f_count, f_treeNodes, f_emitted, f_listing, f_stuck, a_pending, a_text, a_operation, a_operand, a_opens, a_stage, a_hole, a_kept, a_looked, a_active, a_goOn, a_where, a_third, a_fourth, a_treeRule, a_treeStart, a_treeEnd, a_treeDepth, a_part, a_partEnd) (nI x) := by
  have key : wX_matches_21 Q (nI x) f_pendingCount (nI N) f_sp f_pc (nI ps) (nI (max far (ps + 1))) f_silence f_depth f_count f_treeNodes f_emitted f_listing f_stuck a_pending a_text a_operation a_operand a_opens a_stage a_hole a_kept a_looked a_active a_goOn a_where a_third a_fourth a_treeRule a_treeStart a_treeEnd a_treeDepth a_part a_partEnd := by
    refine pk_le N ps (fun h => k0 (by omega)) (fun h => And.intro (xb_in (by omega) (by omega)) ?_)
    obtain ⟨h1, h2⟩ := hc ps h
    have e1 : a_text (nI ps).toNatClampNeg = nI (c ps) := by rw [xb_c (by omega), h1]
    have e2 : nI x >>> ((7 : Int32) &&& 31) = nI lo := by
      rw [pk_shrN (by omega) _ 7 (by decide)]
      exact congrArg nI (by omega)
    have e3 : nI x &&& 127 = nI hi := by
      rw [pk_andN (by omega) 7 (by decide)]
      exact congrArg nI (by omega)
    refine pk_lt (c ps) lo (fun z => k0 (by omega)) (fun z => And.intro (xb_in (by omega) (by omega)) (pk_lt hi (c ps) (fun y => k0 (by omega)) (fun y => k1 ⟨h, z, y⟩) e3 e1)) e1 e2
  refine pk_lt ps far (fun h => ?_) (fun h => nm_r (nI_1 ps) ?_)
  · rw [show max far (ps + 1) = far by omega] at key
    exact key
  · rw [show max far (ps + 1) = ps + 1 by omega] at key
    exact key
theorem xp_finish {sp q far f0 d : Nat} {r p0 : Int32} (hsp : sp < 820) (hq : q < 68) (hfar : far < 128) (hf0 : f0 < 128) (hw : a_where sp = nI q) (ht : a_third sp = nI f0) (hf : a_fourth sp = nI d) (hr : vp_nar .byte p0.toInt8.toInt32 = r)
    (k : P (f_pendingCount, f_length, nI sp, f_pc, f_at, nI (max f0 far), f_silence, nI d, f_count, f_treeNodes, f_emitted, f_listing, f_stuck, a_pending, a_text, a_operation, a_operand, a_opens, a_stage, a_hole, upd a_kept q r, upd a_looked q (nI far), upd a_active q 0, a_goOn, a_where, a_third, a_fourth, a_treeRule, a_treeStart, a_treeEnd, a_treeDepth, a_part, a_partEnd)) : wpX_finish P (f_pendingCount, f_length, nI (sp + 1), f_pc, f_at, nI far, f_silence, f_depth, f_count, f_treeNodes, f_emitted, f_listing, f_stuck, a_pending, a_text, a_operation, a_operand, a_opens, a_stage, a_hole, a_kept, a_looked, a_active, a_goOn, a_where, a_third, a_fourth, a_treeRule, a_treeStart, a_treeEnd, a_treeDepth, a_part, a_partEnd) p0 := by
  have i : vp_in (nI sp) 820 := xb_in hsp (Nat.le_refl _)
  have e : (nI sp).toNatClampNeg = sp := xb_c (by omega)
  have iq : vp_in (nI q) 68 := xb_in hq (by omega)
  have eq : (nI q).toNatClampNeg = q := xb_c (by omega)
  refine nm_r (nI_pred sp) (And.intro i (nm_r (e' := nI q) (by rw [e, hw]) (And.intro iq (nm_r (e' := upd a_kept q r) (by rw [eq, hr]) (And.intro iq (nm_r (e' := upd a_looked q (nI far)) (by rw [eq, xb_b hfar]) (And.intro iq (nm_r (e' := upd a_active q 0) (by rw [eq]; rfl) (And.intro i (pk_le f0 far (fun h => ?_) (fun h => And.intro i (nm_r (e' := nI f0) (by rw [e, ht]) ?_)) (by rw [e, ht])))))))))))
  · rw [show max f0 far = far by omega] at k
    exact And.intro i (nm_r (e' := nI d) (by rw [e, hf]) k)
  · rw [show max f0 far = f0 by omega] at k
    exact And.intro i (nm_r (e' := nI d) (by rw [e, hf]) k)
def xm_nt (b : Bool) (L : List (Nat × Nat)) (x : Nat × Nat) : List (Nat × Nat) := if b = true ∧ L.length < 30 then L ++ [x] else L
theorem xp_note {L : List (Nat × Nat)} {q j dep : Nat} (hL : xm_P L a_part a_partEnd) (b : Bool) (hb : b = true → f_listing ≠ 0 ∧ dep = 1 ∧ f_silence = 0) (hb' : b = false → f_listing = 0 ∨ dep ≠ 1 ∨ f_silence ≠ 0) (hq : q < 128) (hj : j < 128) (hd : dep < 128)
    (k : ∀ pa pe, xm_P (xm_nt b L (q, j)) pa pe → P (f_pendingCount, f_length, f_sp, f_pc, f_at, f_far, f_silence, nI dep, nI (xm_nt b L (q, j)).length, f_treeNodes, f_emitted, f_listing, f_stuck, a_pending, a_text, a_operation, a_operand, a_opens, a_stage, a_hole, a_kept, a_looked, a_active, a_goOn, a_where, a_third, a_fourth, a_treeRule, a_treeStart, a_treeEnd, a_treeDepth, pa, pe)) : wpX_note P (f_pendingCount, f_length, f_sp, f_pc, f_at, f_far, f_silence, nI dep, nI L.length, f_treeNodes, f_emitted, f_listing, f_stuck, a_pending, a_text, a_operation, a_operand, a_opens, a_stage, a_hole, a_kept, a_looked, a_active, a_goOn, a_where, a_third, a_fourth, a_treeRule, a_treeStart, a_treeEnd, a_treeDepth, a_part, a_partEnd) (nI q) (nI j) := by
  have hl := hL.1
  cases b with
  | false =>
    have k0 : P (f_pendingCount, f_length, f_sp, f_pc, f_at, f_far, f_silence, nI dep, nI L.length, f_treeNodes, f_emitted, f_listing, f_stuck, a_pending, a_text, a_operation, a_operand, a_opens, a_stage, a_hole, a_kept, a_looked, a_active, a_goOn, a_where, a_third, a_fourth, a_treeRule, a_treeStart, a_treeEnd, a_treeDepth, a_part, a_partEnd) := k _ _ hL
    by_cases z : f_listing = 0
    · exact br_t z k0
    · refine br_f z (pk_eq dep 1 (fun d1 => ?_) (fun _ => k0))
      by_cases y : f_silence = 0
      · rcases hb' rfl with h | h | h
        · exact absurd h z
        · exact absurd d1 h
        · exact absurd y h
      · exact br_f y k0
  | true =>
    obtain ⟨h1, h2, h3⟩ := hb rfl
    refine br_f h1 (pk_eq dep 1 (fun _ => br_t h3 (pk_eq L.length 30 (fun e => ?_) (fun e => ?_))) (fun y => absurd h2 y))
    · have e1 : xm_nt true L (q, j) = L := if_neg (by omega)
      rw [e1] at k
      exact k _ _ hL
    · have e1 : xm_nt true L (q, j) = L ++ [(q, j)] := if_pos ⟨rfl, by omega⟩
      have i : vp_in (nI L.length) 30 := xb_in (by omega) (by omega)
      have ec : (nI L.length).toNatClampNeg = L.length := xb_c (by omega)
      rw [e1] at k
      have k' := k _ _ (xm_P_a hL (by omega))
      rw [List.length_append] at k'
      exact And.intro i (nm_r (e' := upd a_part L.length (nI q)) (by rw [ec, xb_b hq]) (nm_r (nI_1 L.length) (And.intro i (nm_r (e' := upd a_partEnd L.length (nI j)) (by rw [ec, xb_b hj]) k'))))
theorem xp_enter {r q sp a far dep ps : Nat} (hr : r < 4) (hq : q < 68) (hsp : sp < 820) (ha : f_pc + 1001 = nI a) (ha' : a < 32768) (hfar : far < 128) (hd : dep < 127)
    (k : P (f_pendingCount, f_length, nI (sp + 1), nI (40 * r), nI ps, nI ps, f_silence, nI (dep + 1), f_count, f_treeNodes, f_emitted, f_listing, f_stuck, a_pending, a_text, a_operation, a_operand, a_opens, a_stage, a_hole, a_kept, a_looked, upd a_active q 1, upd a_goOn sp (nI a), upd a_where sp (nI q), upd a_third sp (nI far), upd a_fourth sp (nI dep), a_treeRule, a_treeStart, a_treeEnd, a_treeDepth, a_part, a_partEnd)) : wpX_enter P (f_pendingCount, f_length, nI sp, f_pc, nI ps, nI far, f_silence, nI dep, f_count, f_treeNodes, f_emitted, f_listing, f_stuck, a_pending, a_text, a_operation, a_operand, a_opens, a_stage, a_hole, a_kept, a_looked, a_active, a_goOn, a_where, a_third, a_fourth, a_treeRule, a_treeStart, a_treeEnd, a_treeDepth, a_part, a_partEnd) (nI r) (nI q) := by
  have iq : vp_in (nI q) 68 := xb_in hq (by omega)
  have eq : (nI q).toNatClampNeg = q := xb_c (by omega)
  refine And.intro iq (nm_r (e' := upd a_active q 1) (by rw [eq]; rfl) ?_)
  rw [ha]
  refine xp_push hsp ha' (by omega) hfar (xb_b (by omega)) (nm_r (nI_1 dep) (nm_r (e' := nI (40 * r)) ?_ k))
  show nI r * nI 40 = _
  rw [pk_mul]
  exact congrArg nI (by omega)
/-! a call of a rule -/
theorem xp_q {r ps : Nat} : nI r * 17 + nI ps = nI (17 * r + ps) := by
  show nI r * nI 17 + nI ps = _
  rw [pk_mul, nI_add]
  exact congrArg nI (by omega)
theorem xp_r40 {r : Nat} : nI r * 40 = nI (40 * r) := by
  show nI r * nI 40 = _
  rw [pk_mul]
  exact congrArg nI (by omega)
theorem xp_call_0 {r ps far w : Nat} (hr : r < 4) (hps : ps ≤ 16) (hfar : far ≤ 17) (hw : w ≤ 17) (hk : a_kept (17 * r + ps) = -2) (hl : a_looked (17 * r + ps) = nI w)
    (k : ∀ P' : SX → Prop, (∀ u, P u → P' u) → wpX_fail P' (f_pendingCount, f_length, f_sp, f_pc, nI ps, nI (max far w), f_silence, f_depth, f_count, f_treeNodes, f_emitted, f_listing, f_stuck, a_pending, a_text, a_operation, a_operand, a_opens, a_stage, a_hole, a_kept, a_looked, a_active, a_goOn, a_where, a_third, a_fourth, a_treeRule, a_treeStart, a_treeEnd, a_treeDepth, a_part, a_partEnd)) : wpX_call P (f_pendingCount, f_length, f_sp, f_pc, nI ps, nI far, f_silence, f_depth, f_count, f_treeNodes, f_emitted, f_listing, f_stuck, a_pending, a_text, a_operation, a_operand, a_opens, a_stage, a_hole, a_kept, a_looked, a_active, a_goOn, a_where, a_third, a_fourth, a_treeRule, a_treeStart, a_treeEnd, a_treeDepth, a_part, a_partEnd) (nI r) := by
  have i : vp_in (nI (17 * r + ps)) 68 := xb_in (by omega) (by omega)
  have e : (nI (17 * r + ps)).toNatClampNeg = 17 * r + ps := xb_c (by omega)
  refine nm_r xp_q (And.intro i (nm_r (e' := (-2 : Int32)) (by rw [e, hk]) (br_f (by decide) (And.intro i (pk_le w far (fun h => ?_) (fun h => And.intro i (nm_r (e' := nI w) (by rw [e, hl]) ?_)) (by rw [e, hl]))))))
  · rw [show max far w = far by omega] at k
    exact br_f (by decide) (k _ (fun ⟨y1, y2, y3, y4, y5, y6, y7, y8, y9, y10, y11, y12, y13, y14, y15, y16, y17, y18, y19, y20, y21, y22, y23, y24, y25, y26, y27, y28, y29, y30, y31, y32, y33⟩ h => h))
  · rw [show max far w = w by omega] at k
    exact br_f (by decide) (k _ (fun ⟨y1, y2, y3, y4, y5, y6, y7, y8, y9, y10, y11, y12, y13, y14, y15, y16, y17, y18, y19, y20, y21, y22, y23, y24, y25, y26, y27, y28, y29, y30, y31, y32, y33⟩ h => h))
theorem xp_call_1 {r ps far w j dep pc : Nat} {L : List (Nat × Nat)} (hr : r < 4) (hps : ps ≤ 16) (hfar : far ≤ 17) (hw : w ≤ 17) (hj : j ≤ 16) (hd : dep < 128) (hk : a_kept (17 * r + ps) = nI j) (hl : a_looked (17 * r + ps) = nI w)
    (hL : xm_P L a_part a_partEnd) (b : Bool) (hb : b = true → f_listing ≠ 0 ∧ dep = 1 ∧ f_silence = 0) (hb' : b = false → f_listing = 0 ∨ dep ≠ 1 ∨ f_silence ≠ 0) (hpc : f_pc + 1 = nI pc)
    (k : ∀ pa pe, xm_P (xm_nt b L (17 * r + ps, j)) pa pe → P (f_pendingCount, f_length, f_sp, nI pc, nI j, nI (max far w), f_silence, nI dep, nI (xm_nt b L (17 * r + ps, j)).length, f_treeNodes, f_emitted, f_listing, f_stuck, a_pending, a_text, a_operation, a_operand, a_opens, a_stage, a_hole, a_kept, a_looked, a_active, a_goOn, a_where, a_third, a_fourth, a_treeRule, a_treeStart, a_treeEnd, a_treeDepth, pa, pe)) : wpX_call P (f_pendingCount, f_length, f_sp, f_pc, nI ps, nI far, f_silence, nI dep, nI L.length, f_treeNodes, f_emitted, f_listing, f_stuck, a_pending, a_text, a_operation, a_operand, a_opens, a_stage, a_hole, a_kept, a_looked, a_active, a_goOn, a_where, a_third, a_fourth, a_treeRule, a_treeStart, a_treeEnd, a_treeDepth, a_part, a_partEnd) (nI r) := by
  have i : vp_in (nI (17 * r + ps)) 68 := xb_in (by omega) (by omega)
  have e : (nI (17 * r + ps)).toNatClampNeg = 17 * r + ps := xb_c (by omega)
  have h9 : ¬ nI j = -9 := fun h => by
    have h1 : (nI j).toInt = (-9 : Int32).toInt := congrArg _ h
    rw [nI_toInt (by omega), show (-9 : Int32).toInt = -9 by decide] at h1
    omega
  have h0 : (0 : Int32) ≤ nI j := nI_pos' (by omega)
  refine nm_r xp_q (And.intro i (nm_r (e' := nI j) (by rw [e, hk]) (br_f h9 (And.intro i (pk_le w far (fun h => ?_) (fun h => And.intro i (nm_r (e' := nI w) (by rw [e, hl]) ?_)) (by rw [e, hl]))))))
  · rw [show max far w = far by omega] at k
    exact br_t h0 (xp_note hL b hb hb' (by omega) (by omega) hd (fun pa pe h => nm_r hpc (k pa pe h)))
  · rw [show max far w = w by omega] at k
    exact br_t h0 (xp_note hL b hb hb' (by omega) (by omega) hd (fun pa pe h => nm_r hpc (k pa pe h)))
theorem xp_call_u {r ps : Nat} (hr : r < 4) (hps : ps ≤ 16) (hk : a_kept (17 * r + ps) = -9) (ho : a_operation (40 * r) = 0)
    (k : ∀ P' : SX → Prop, (∀ u, P u → P' u) → wpX_fail P' (f_pendingCount, f_length, f_sp, f_pc, nI ps, f_far, f_silence, f_depth, f_count, f_treeNodes, f_emitted, f_listing, f_stuck, a_pending, a_text, a_operation, a_operand, a_opens, a_stage, a_hole, upd a_kept (17 * r + ps) (-2), upd a_looked (17 * r + ps) (nI ps), a_active, a_goOn, a_where, a_third, a_fourth, a_treeRule, a_treeStart, a_treeEnd, a_treeDepth, a_part, a_partEnd)) : wpX_call P (f_pendingCount, f_length, f_sp, f_pc, nI ps, f_far, f_silence, f_depth, f_count, f_treeNodes, f_emitted, f_listing, f_stuck, a_pending, a_text, a_operation, a_operand, a_opens, a_stage, a_hole, a_kept, a_looked, a_active, a_goOn, a_where, a_third, a_fourth, a_treeRule, a_treeStart, a_treeEnd, a_treeDepth, a_part, a_partEnd) (nI r) := by
  have i : vp_in (nI (17 * r + ps)) 68 := xb_in (by omega) (by omega)
  have e : (nI (17 * r + ps)).toNatClampNeg = 17 * r + ps := xb_c (by omega)
  have i2 : vp_in (nI r * 40) 160 := by rw [xp_r40]; exact xb_in (by omega) (by omega)
  have e2 : (nI r * 40).toNatClampNeg = 40 * r := by rw [xp_r40]; exact xb_c (by omega)
  exact nm_r xp_q (And.intro i (nm_r (e' := (-9 : Int32)) (by rw [e, hk]) (br_t rfl (And.intro i2 (br_t (by rw [e2, ho]) (And.intro i (nm_r (e' := upd a_kept (17 * r + ps) (-2)) (by rw [e, xb_m2']) (And.intro i (nm_r (e' := upd a_looked (17 * r + ps) (nI ps)) (by rw [e, xb_b (by omega)]) (k _ (fun ⟨y1, y2, y3, y4, y5, y6, y7, y8, y9, y10, y11, y12, y13, y14, y15, y16, y17, y18, y19, y20, y21, y22, y23, y24, y25, y26, y27, y28, y29, y30, y31, y32, y33⟩ h => h)))))))))))
theorem xp_call_e {r ps far dep sp a : Nat} (hr : r < 4) (hps : ps ≤ 16) (hk : a_kept (17 * r + ps) = -9) (ho : a_operation (40 * r) ≠ 0) (hac : a_active (17 * r + ps) = 0) (hsp : sp < 820) (ha : f_pc + 1001 = nI a) (ha' : a < 32768) (hfar : far < 128) (hd : dep < 127)
    (k : P (f_pendingCount, f_length, nI (sp + 1), nI (40 * r), nI ps, nI ps, f_silence, nI (dep + 1), f_count, f_treeNodes, f_emitted, f_listing, f_stuck, a_pending, a_text, a_operation, a_operand, a_opens, a_stage, a_hole, a_kept, a_looked, upd a_active (17 * r + ps) 1, upd a_goOn sp (nI a), upd a_where sp (nI (17 * r + ps)), upd a_third sp (nI far), upd a_fourth sp (nI dep), a_treeRule, a_treeStart, a_treeEnd, a_treeDepth, a_part, a_partEnd)) : wpX_call P (f_pendingCount, f_length, nI sp, f_pc, nI ps, nI far, f_silence, nI dep, f_count, f_treeNodes, f_emitted, f_listing, f_stuck, a_pending, a_text, a_operation, a_operand, a_opens, a_stage, a_hole, a_kept, a_looked, a_active, a_goOn, a_where, a_third, a_fourth, a_treeRule, a_treeStart, a_treeEnd, a_treeDepth, a_part, a_partEnd) (nI r) := by
  have i : vp_in (nI (17 * r + ps)) 68 := xb_in (by omega) (by omega)
  have e : (nI (17 * r + ps)).toNatClampNeg = 17 * r + ps := xb_c (by omega)
  have i2 : vp_in (nI r * 40) 160 := by rw [xp_r40]; exact xb_in (by omega) (by omega)
  have e2 : (nI r * 40).toNatClampNeg = 40 * r := by rw [xp_r40]; exact xb_c (by omega)
  exact nm_r xp_q (And.intro i (nm_r (e' := (-9 : Int32)) (by rw [e, hk]) (br_t rfl (And.intro i2 (br_f (by rw [e2]; exact ho) (And.intro i (br_t (by rw [e, hac]) (xp_enter hr (by omega) hsp ha ha' hfar hd k))))))))
theorem xp_call_s {r ps : Nat} (hr : r < 4) (hps : ps ≤ 16) (hk : a_kept (17 * r + ps) = -9) (ho : a_operation (40 * r) ≠ 0) (hac : a_active (17 * r + ps) ≠ 0)
    (k : P (f_pendingCount, f_length, f_sp, f_pc, nI ps, f_far, f_silence, f_depth, f_count, f_treeNodes, f_emitted, f_listing, 1, a_pending, a_text, a_operation, a_operand, a_opens, a_stage, a_hole, a_kept, a_looked, a_active, a_goOn, a_where, a_third, a_fourth, a_treeRule, a_treeStart, a_treeEnd, a_treeDepth, a_part, a_partEnd)) : wpX_call P (f_pendingCount, f_length, f_sp, f_pc, nI ps, f_far, f_silence, f_depth, f_count, f_treeNodes, f_emitted, f_listing, f_stuck, a_pending, a_text, a_operation, a_operand, a_opens, a_stage, a_hole, a_kept, a_looked, a_active, a_goOn, a_where, a_third, a_fourth, a_treeRule, a_treeStart, a_treeEnd, a_treeDepth, a_part, a_partEnd) (nI r) := by
  have i : vp_in (nI (17 * r + ps)) 68 := xb_in (by omega) (by omega)
  have e : (nI (17 * r + ps)).toNatClampNeg = 17 * r + ps := xb_c (by omega)
  have i2 : vp_in (nI r * 40) 160 := by rw [xp_r40]; exact xb_in (by omega) (by omega)
  have e2 : (nI r * 40).toNatClampNeg = 40 * r := by rw [xp_r40]; exact xb_c (by omega)
  exact nm_r xp_q (And.intro i (nm_r (e' := (-9 : Int32)) (by rw [e, hk]) (br_t rfl (And.intro i2 (br_f (by rw [e2]; exact ho) (And.intro i (br_f (by rw [e]; exact hac) k)))))))
end
end
section
/-! the machine's steps as rules over GG (running) and FF (failing) -/
section
variable {P : SX → Prop} {f_pendingCount f_length f_sp f_pc f_at f_far f_silence f_depth f_count f_treeNodes f_emitted f_listing f_stuck : Int32} {a_pending a_text a_operation a_operand a_opens a_stage a_hole a_kept a_looked a_active a_goOn a_where a_third a_fourth a_treeRule a_treeStart a_treeEnd a_treeDepth a_part a_partEnd : Nat → Int32}
theorem xs_c {pc : Nat} {op x : Int32} (hpc : pc < 160) (h : a_operation pc = op) (hx : a_operand pc = x) (hop : op = 6 ∨ op = 7 ∨ op = 9 ∨ op = 10 ∨ op = 11 ∨ op = 12)
    (k : ∀ P' : SX → Prop, (∀ u, P u → P' u) → wpX_control P' (f_pendingCount, f_length, f_sp, nI pc, f_at, f_far, f_silence, f_depth, f_count, f_treeNodes, f_emitted, f_listing, f_stuck, a_pending, a_text, a_operation, a_operand, a_opens, a_stage, a_hole, a_kept, a_looked, a_active, a_goOn, a_where, a_third, a_fourth, a_treeRule, a_treeStart, a_treeEnd, a_treeDepth, a_part, a_partEnd) x) : wpX_step P (f_pendingCount, f_length, f_sp, nI pc, f_at, f_far, f_silence, f_depth, f_count, f_treeNodes, f_emitted, f_listing, f_stuck, a_pending, a_text, a_operation, a_operand, a_opens, a_stage, a_hole, a_kept, a_looked, a_active, a_goOn, a_where, a_third, a_fourth, a_treeRule, a_treeStart, a_treeEnd, a_treeDepth, a_part, a_partEnd) := by
  have i : vp_in (nI pc) 160 := xb_in hpc (by omega)
  have e : (nI pc).toNatClampNeg = pc := xb_c (by omega)
  refine And.intro i (nm_r (e' := x) (by rw [e, hx]) (And.intro i (nm_r (e' := op) (by rw [e, h]) ?_)))
  rcases hop with rfl | rfl | rfl | rfl | rfl | rfl
  · exact br_f (by decide) (br_f (by decide) (br_f (by decide) (br_f (by decide) (br_f (by decide) (br_f (by decide) (br_f (by decide) (br_t rfl (k _ (fun ⟨y1, y2, y3, y4, y5, y6, y7, y8, y9, y10, y11, y12, y13, y14, y15, y16, y17, y18, y19, y20, y21, y22, y23, y24, y25, y26, y27, y28, y29, y30, y31, y32, y33⟩ h => h)))))))))
  · exact br_f (by decide) (br_f (by decide) (br_f (by decide) (br_f (by decide) (br_f (by decide) (br_f (by decide) (br_f (by decide) (br_f (by decide) (br_t rfl (k _ (fun ⟨y1, y2, y3, y4, y5, y6, y7, y8, y9, y10, y11, y12, y13, y14, y15, y16, y17, y18, y19, y20, y21, y22, y23, y24, y25, y26, y27, y28, y29, y30, y31, y32, y33⟩ h => h))))))))))
  · exact br_f (by decide) (br_t (by decide) (k _ (fun ⟨y1, y2, y3, y4, y5, y6, y7, y8, y9, y10, y11, y12, y13, y14, y15, y16, y17, y18, y19, y20, y21, y22, y23, y24, y25, y26, y27, y28, y29, y30, y31, y32, y33⟩ h => h)))
  · exact br_f (by decide) (br_t (by decide) (k _ (fun ⟨y1, y2, y3, y4, y5, y6, y7, y8, y9, y10, y11, y12, y13, y14, y15, y16, y17, y18, y19, y20, y21, y22, y23, y24, y25, y26, y27, y28, y29, y30, y31, y32, y33⟩ h => h)))
  · exact br_f (by decide) (br_t (by decide) (k _ (fun ⟨y1, y2, y3, y4, y5, y6, y7, y8, y9, y10, y11, y12, y13, y14, y15, y16, y17, y18, y19, y20, y21, y22, y23, y24, y25, y26, y27, y28, y29, y30, y31, y32, y33⟩ h => h)))
  · exact br_f (by decide) (br_t (by decide) (k _ (fun ⟨y1, y2, y3, y4, y5, y6, y7, y8, y9, y10, y11, y12, y13, y14, y15, y16, y17, y18, y19, y20, y21, y22, y23, y24, y25, y26, y27, y28, y29, y30, y31, y32, y33⟩ h => h)))
theorem xc_6 {pc sp : Nat} {x : Int32} (hpc : pc < 160) (h : a_operation pc = 6) (k : P (f_pendingCount, f_length, nI sp, x, f_at, f_far, f_silence, f_depth, f_count, f_treeNodes, f_emitted, f_listing, f_stuck, a_pending, a_text, a_operation, a_operand, a_opens, a_stage, a_hole, a_kept, a_looked, a_active, a_goOn, a_where, a_third, a_fourth, a_treeRule, a_treeStart, a_treeEnd, a_treeDepth, a_part, a_partEnd)) : wpX_control P (f_pendingCount, f_length, nI (sp + 1), nI pc, f_at, f_far, f_silence, f_depth, f_count, f_treeNodes, f_emitted, f_listing, f_stuck, a_pending, a_text, a_operation, a_operand, a_opens, a_stage, a_hole, a_kept, a_looked, a_active, a_goOn, a_where, a_third, a_fourth, a_treeRule, a_treeStart, a_treeEnd, a_treeDepth, a_part, a_partEnd) x :=
  nm_r (nI_pred sp) (And.intro (xb_in hpc (by omega)) (nm_r (e' := (6 : Int32)) (by rw [xb_c (by omega), h]) (br_f (by decide) (br_f (by decide) (br_t rfl k)))))
theorem xc_11 {pc : Nat} {x : Int32} (hpc : pc < 160) (h : a_operation pc = 11) (k : ∀ P' : SX → Prop, (∀ u, P u → P' u) → wpX_fail P' (f_pendingCount, f_length, f_sp, nI pc, f_at, f_far, f_silence, f_depth, f_count, f_treeNodes, f_emitted, f_listing, f_stuck, a_pending, a_text, a_operation, a_operand, a_opens, a_stage, a_hole, a_kept, a_looked, a_active, a_goOn, a_where, a_third, a_fourth, a_treeRule, a_treeStart, a_treeEnd, a_treeDepth, a_part, a_partEnd)) : wpX_control P (f_pendingCount, f_length, f_sp, nI pc, f_at, f_far, f_silence, f_depth, f_count, f_treeNodes, f_emitted, f_listing, f_stuck, a_pending, a_text, a_operation, a_operand, a_opens, a_stage, a_hole, a_kept, a_looked, a_active, a_goOn, a_where, a_third, a_fourth, a_treeRule, a_treeStart, a_treeEnd, a_treeDepth, a_part, a_partEnd) x :=
  nm_e (And.intro (xb_in hpc (by omega)) (nm_r (e' := (11 : Int32)) (by rw [xb_c (by omega), h]) (br_f (by decide) (br_f (by decide) (br_f (by decide) (br_f (by decide) (br_f (by decide) (br_f (by decide) (br_f (by decide) (br_t rfl (k _ (fun ⟨y1, y2, y3, y4, y5, y6, y7, y8, y9, y10, y11, y12, y13, y14, y15, y16, y17, y18, y19, y20, y21, y22, y23, y24, y25, y26, y27, y28, y29, y30, y31, y32, y33⟩ h => h))))))))))))
theorem xc_10 {pc sp : Nat} {x s : Int32} (hpc : pc < 160) (hsp : sp < 820) (h : a_operation pc = 10) (hs : a_fourth sp = s) (k : ∀ P' : SX → Prop, (∀ u, P u → P' u) → wpX_fail P' (f_pendingCount, f_length, nI sp, nI pc, f_at, f_far, s, f_depth, f_count, f_treeNodes, f_emitted, f_listing, f_stuck, a_pending, a_text, a_operation, a_operand, a_opens, a_stage, a_hole, a_kept, a_looked, a_active, a_goOn, a_where, a_third, a_fourth, a_treeRule, a_treeStart, a_treeEnd, a_treeDepth, a_part, a_partEnd)) : wpX_control P (f_pendingCount, f_length, nI (sp + 1), nI pc, f_at, f_far, f_silence, f_depth, f_count, f_treeNodes, f_emitted, f_listing, f_stuck, a_pending, a_text, a_operation, a_operand, a_opens, a_stage, a_hole, a_kept, a_looked, a_active, a_goOn, a_where, a_third, a_fourth, a_treeRule, a_treeStart, a_treeEnd, a_treeDepth, a_part, a_partEnd) x :=
  nm_r (nI_pred sp) (And.intro (xb_in hpc (by omega)) (nm_r (e' := (10 : Int32)) (by rw [xb_c (by omega), h]) (br_f (by decide) (br_f (by decide) (br_f (by decide) (br_f (by decide) (br_f (by decide) (br_f (by decide) (br_t rfl (And.intro (xb_in hsp (by omega)) (nm_r (e' := s) (by rw [xb_c (by omega), hs]) (k _ (fun ⟨y1, y2, y3, y4, y5, y6, y7, y8, y9, y10, y11, y12, y13, y14, y15, y16, y17, y18, y19, y20, y21, y22, y23, y24, y25, y26, y27, y28, y29, y30, y31, y32, y33⟩ h => h)))))))))))))
theorem xc_9 {pc sp p c : Nat} {x s : Int32} (hpc : pc < 160) (hsp : sp < 820) (h : a_operation pc = 9) (hw : a_where sp = nI p) (hc : a_third sp = nI c) (hs : a_fourth sp = s) (k : P (f_pendingCount, f_length, nI sp, x, nI p, f_far, s, f_depth, nI c, f_treeNodes, f_emitted, f_listing, f_stuck, a_pending, a_text, a_operation, a_operand, a_opens, a_stage, a_hole, a_kept, a_looked, a_active, a_goOn, a_where, a_third, a_fourth, a_treeRule, a_treeStart, a_treeEnd, a_treeDepth, a_part, a_partEnd)) : wpX_control P (f_pendingCount, f_length, nI (sp + 1), nI pc, f_at, f_far, f_silence, f_depth, f_count, f_treeNodes, f_emitted, f_listing, f_stuck, a_pending, a_text, a_operation, a_operand, a_opens, a_stage, a_hole, a_kept, a_looked, a_active, a_goOn, a_where, a_third, a_fourth, a_treeRule, a_treeStart, a_treeEnd, a_treeDepth, a_part, a_partEnd) x :=
  have i : vp_in (nI sp) 820 := xb_in hsp (by omega)
  have e : (nI sp).toNatClampNeg = sp := xb_c (by omega)
  nm_r (nI_pred sp) (And.intro (xb_in hpc (by omega)) (nm_r (e' := (9 : Int32)) (by rw [xb_c (by omega), h]) (br_f (by decide) (br_f (by decide) (br_f (by decide) (br_f (by decide) (br_f (by decide) (br_t rfl (And.intro i (nm_r (e' := nI p) (by rw [e, hw]) (And.intro i (nm_r (e' := nI c) (by rw [e, hc]) (And.intro i (nm_r (e' := s) (by rw [e, hs]) k))))))))))))))
theorem xp_round {sp p ps cn : Nat} {b en : Int32} (hsp : sp < 820) (hp : p < 128) (hps : ps < 128) (hcn : cn < 128) (hw : a_where sp = nI p)
    (k0 : p = ps → P (f_pendingCount, f_length, nI sp, en, nI ps, f_far, f_silence, f_depth, nI cn, f_treeNodes, f_emitted, f_listing, f_stuck, a_pending, a_text, a_operation, a_operand, a_opens, a_stage, a_hole, a_kept, a_looked, a_active, a_goOn, a_where, a_third, a_fourth, a_treeRule, a_treeStart, a_treeEnd, a_treeDepth, a_part, a_partEnd)) (k1 : p ≠ ps → P (f_pendingCount, f_length, nI (sp + 1), b, nI ps, f_far, f_silence, f_depth, nI cn, f_treeNodes, f_emitted, f_listing, f_stuck, a_pending, a_text, a_operation, a_operand, a_opens, a_stage, a_hole, a_kept, a_looked, a_active, a_goOn, upd a_where sp (nI ps), upd a_third sp (nI cn), a_fourth, a_treeRule, a_treeStart, a_treeEnd, a_treeDepth, a_part, a_partEnd)) : wpX_round P (f_pendingCount, f_length, nI (sp + 1), f_pc, nI ps, f_far, f_silence, f_depth, nI cn, f_treeNodes, f_emitted, f_listing, f_stuck, a_pending, a_text, a_operation, a_operand, a_opens, a_stage, a_hole, a_kept, a_looked, a_active, a_goOn, a_where, a_third, a_fourth, a_treeRule, a_treeStart, a_treeEnd, a_treeDepth, a_part, a_partEnd) b en := by
  have i : vp_in (nI (sp + 1) - 1) 820 := by rw [nI_pred]; exact xb_in hsp (by omega)
  have e : (nI (sp + 1) - 1).toNatClampNeg = sp := by rw [nI_pred]; exact xb_c (by omega)
  exact And.intro i (pk_eq p ps (fun h => nm_r (nI_pred sp) (k0 h)) (fun h => And.intro i (nm_r (e' := upd a_where sp (nI ps)) (by rw [e, xb_s (by omega)]) (And.intro i (nm_r (e' := upd a_third sp (nI cn)) (by rw [e, xb_b (by omega)]) (k1 h))))) (by rw [e, hw]))
end
section
variable {post : SX → Prop} {f_pendingCount f_length f_treeNodes f_emitted f_listing : Int32} {a_pending a_text a_operation a_operand a_opens a_stage a_hole a_treeRule a_treeStart a_treeEnd a_treeDepth : Nat → Int32}
variable {t pc ps far dep : Nat} {S : List xm_Fr} {sil : Int32} {L : List (Nat × Nat)} {kp lk ac : Nat → Int32}
theorem xr_st (ht : t < 4000000) (hpc : pc < 160)
    (k : ∀ (g w th fo pa pe : Nat → Int32) (n : Nat), xm_S S g w th fo → xm_P L pa pe → 4000001 ≤ n + (t + 1) → ∀ P : SX → Prop, (∀ u : SX, xm_go post n (t + 1) u → P u) → wpX_step P (f_pendingCount, f_length, nI S.length, nI pc, nI ps, nI far, sil, nI dep, nI L.length, f_treeNodes, f_emitted, f_listing, 0, a_pending, a_text, a_operation, a_operand, a_opens, a_stage, a_hole, kp, lk, ac, g, w, th, fo, a_treeRule, a_treeStart, a_treeEnd, a_treeDepth, pa, pe)) :
    xm_GG post f_pendingCount f_length f_treeNodes f_emitted f_listing a_pending a_text a_operation a_operand a_opens a_stage a_hole a_treeRule a_treeStart a_treeEnd a_treeDepth t S pc ps far sil dep L kp lk ac := by
  intro g w th fo pa pe n hS hP hn
  obtain ⟨n, rfl⟩ : ∃ m, n = m + 1 := ⟨n - 1, by omega⟩
  exact xm_hd ht hpc (k g w th fo pa pe n hS hP (by omega))
theorem xr_let {N lo hi : Nat} {c : Nat → Nat} (ht : t < 4000000) (hpc : pc < 160) (hlen : f_length = nI N) (hN : N ≤ 16) (hps : ps ≤ N) (hfar : far ≤ 17) (hlo : lo < 128) (hhi : hi < 128) (hc : ∀ j, j < N → a_text j = nI (c j) ∧ c j < 128)
    (ho : (a_operation pc = 1 ∧ a_operand pc = nI (lo * 128 + hi)) ∨ (a_operation pc = 2 ∧ lo = 0 ∧ hi = 127))
    (k0 : ¬ (ps < N ∧ lo ≤ c ps ∧ c ps ≤ hi) → xm_FF post f_pendingCount f_length f_treeNodes f_emitted f_listing a_pending a_text a_operation a_operand a_opens a_stage a_hole a_treeRule a_treeStart a_treeEnd a_treeDepth t S (max far (ps + 1)) dep L kp lk ac)
    (k1 : (ps < N ∧ lo ≤ c ps ∧ c ps ≤ hi) → xm_GG post f_pendingCount f_length f_treeNodes f_emitted f_listing a_pending a_text a_operation a_operand a_opens a_stage a_hole a_treeRule a_treeStart a_treeEnd a_treeDepth (t + 1) S (pc + 1) (ps + 1) (max far (ps + 1)) sil dep L kp lk ac) :
    xm_GG post f_pendingCount f_length f_treeNodes f_emitted f_listing a_pending a_text a_operation a_operand a_opens a_stage a_hole a_treeRule a_treeStart a_treeEnd a_treeDepth t S pc ps far sil dep L kp lk ac := by
  subst hlen
  refine xr_st ht hpc (fun g w th fo pa pe n hS hP hn P hQ => ?_)
  have i : vp_in (nI pc) 160 := xb_in hpc (by omega)
  have e : (nI pc).toNatClampNeg = pc := xb_c (by omega)
  rcases ho with ⟨o1, o2⟩ | ⟨o1, rfl, rfl⟩
  · refine And.intro i (nm_r (e' := nI (lo * 128 + hi)) (by rw [e, o2]) (And.intro i (nm_r (e' := (1 : Int32)) (by rw [e, o1]) (br_f (by decide) (br_f (by decide) (br_t rfl ?_))))))
    refine xp_match (c := c) hN hps hfar hlo hhi rfl hc (fun h => br_t rfl ?_) (fun h => br_f (by decide) ?_)
    · exact k0 h _ _ _ _ _ _ _ _ _ n hS hP hn _ (fun ⟨y1, y2, y3, y4, y5, y6, y7, y8, y9, y10, y11, y12, y13, y14, y15, y16, y17, y18, y19, y20, y21, y22, y23, y24, y25, y26, y27, y28, y29, y30, y31, y32, y33⟩ h => hQ _ h)
    · exact nm_r (nI_1 ps) (nm_r (nI_1 pc) (hQ _ (k1 h _ _ _ _ _ _ n hS hP hn)))
  · refine And.intro i (nm_e (And.intro i (nm_r (e' := (2 : Int32)) (by rw [e, o1]) (br_f (by decide) (br_f (by decide) (br_f (by decide) (br_t rfl ?_)))))))
    refine xp_match (c := c) (x := 127) hN hps hfar hlo hhi rfl hc (fun h => br_t rfl ?_) (fun h => br_f (by decide) ?_)
    · exact k0 h _ _ _ _ _ _ _ _ _ n hS hP hn _ (fun ⟨y1, y2, y3, y4, y5, y6, y7, y8, y9, y10, y11, y12, y13, y14, y15, y16, y17, y18, y19, y20, y21, y22, y23, y24, y25, y26, y27, y28, y29, y30, y31, y32, y33⟩ h => hQ _ h)
    · exact nm_r (nI_1 ps) (nm_r (nI_1 pc) (hQ _ (k1 h _ _ _ _ _ _ n hS hP hn)))
/-! alternatives and look-ahead -/
theorem xr_5 {x : Nat} (ht : t < 4000000) (hpc : pc < 160) (ho : a_operation pc = 5) (ha : a_operand pc = nI x) (hx : x < 1000) (hps : ps < 128) (hS : S.length < 820)
    (k : xm_GG post f_pendingCount f_length f_treeNodes f_emitted f_listing a_pending a_text a_operation a_operand a_opens a_stage a_hole a_treeRule a_treeStart a_treeEnd a_treeDepth (t + 1) ((x, ps, L.length, sil.toInt8.toInt32) :: S) (pc + 1) ps far sil dep L kp lk ac) : xm_GG post f_pendingCount f_length f_treeNodes f_emitted f_listing a_pending a_text a_operation a_operand a_opens a_stage a_hole a_treeRule a_treeStart a_treeEnd a_treeDepth t S pc ps far sil dep L kp lk ac := by
  refine xr_st ht hpc (fun g w th fo pa pe n hS' hP hn P hQ => ?_)
  have i : vp_in (nI pc) 160 := xb_in hpc (by omega)
  have e : (nI pc).toNatClampNeg = pc := xb_c (by omega)
  have hl := hP.1
  refine And.intro i (nm_r (e' := nI x) (by rw [e, ha]) (And.intro i (nm_r (e' := (5 : Int32)) (by rw [e, ho]) (br_f (by decide) (br_f (by decide) (br_f (by decide) (br_f (by decide) (br_f (by decide) (br_f (by decide) (br_t rfl ?_))))))))))
  exact xp_push hS (by omega) (by omega) (by omega) (pk_vb sil) (nm_r (nI_1 pc) (hQ _ (k _ _ _ _ _ _ n (xm_S_p hS') hP hn)))
theorem xr_8 {x : Nat} (ht : t < 4000000) (hpc : pc < 160) (ho : a_operation pc = 8) (ha : a_operand pc = nI x) (hx : x < 1000) (hps : ps < 128) (hS : S.length < 820)
    (k : xm_GG post f_pendingCount f_length f_treeNodes f_emitted f_listing a_pending a_text a_operation a_operand a_opens a_stage a_hole a_treeRule a_treeStart a_treeEnd a_treeDepth (t + 1) ((x, ps, L.length, sil.toInt8.toInt32) :: S) (pc + 1) ps far (sil + 1) dep L kp lk ac) : xm_GG post f_pendingCount f_length f_treeNodes f_emitted f_listing a_pending a_text a_operation a_operand a_opens a_stage a_hole a_treeRule a_treeStart a_treeEnd a_treeDepth t S pc ps far sil dep L kp lk ac := by
  refine xr_st ht hpc (fun g w th fo pa pe n hS' hP hn P hQ => ?_)
  have i : vp_in (nI pc) 160 := xb_in hpc (by omega)
  have e : (nI pc).toNatClampNeg = pc := xb_c (by omega)
  have hl := hP.1
  refine And.intro i (nm_r (e' := nI x) (by rw [e, ha]) (And.intro i (nm_r (e' := (8 : Int32)) (by rw [e, ho]) (br_f (by decide) (br_f (by decide) (br_f (by decide) (br_f (by decide) (br_f (by decide) (br_f (by decide) (br_f (by decide) (br_f (by decide) (br_f (by decide) (br_t rfl ?_)))))))))))))
  exact xp_push hS (by omega) (by omega) (by omega) (pk_vb sil) (nm_e (nm_r (nI_1 pc) (hQ _ (k _ _ _ _ _ _ n (xm_S_p hS') hP hn))))
theorem xr_6 {x : Nat} {fr : xm_Fr} (ht : t < 4000000) (hpc : pc < 160) (ho : a_operation pc = 6) (ha : a_operand pc = nI x)
    (k : xm_GG post f_pendingCount f_length f_treeNodes f_emitted f_listing a_pending a_text a_operation a_operand a_opens a_stage a_hole a_treeRule a_treeStart a_treeEnd a_treeDepth (t + 1) S x ps far sil dep L kp lk ac) : xm_GG post f_pendingCount f_length f_treeNodes f_emitted f_listing a_pending a_text a_operation a_operand a_opens a_stage a_hole a_treeRule a_treeStart a_treeEnd a_treeDepth t (fr :: S) pc ps far sil dep L kp lk ac := by
  refine xr_st ht hpc (fun g w th fo pa pe n hS' hP hn P hQ => ?_)
  refine xs_c hpc ho ha (Or.inl rfl) (fun P' hP' => xc_6 (sp := S.length) hpc ho (hP' _ (hQ _ (k _ _ _ _ _ _ n ?_ hP hn))))
  rcases fr with ⟨a, b, c, d⟩
  exact hS'.2
theorem xr_11 (ht : t < 4000000) (hpc : pc < 160) (ho : a_operation pc = 11)
    (k : xm_FF post f_pendingCount f_length f_treeNodes f_emitted f_listing a_pending a_text a_operation a_operand a_opens a_stage a_hole a_treeRule a_treeStart a_treeEnd a_treeDepth t S far dep L kp lk ac) : xm_GG post f_pendingCount f_length f_treeNodes f_emitted f_listing a_pending a_text a_operation a_operand a_opens a_stage a_hole a_treeRule a_treeStart a_treeEnd a_treeDepth t S pc ps far sil dep L kp lk ac := by
  refine xr_st ht hpc (fun g w th fo pa pe n hS' hP hn P hQ => ?_)
  exact xs_c hpc ho rfl (Or.inr (Or.inr (Or.inr (Or.inr (Or.inl rfl))))) (fun P' hP' => xc_11 hpc ho (fun P'' hP'' => k _ _ _ _ _ _ _ _ _ n hS' hP hn _ (fun u h => hP'' u (hP' u (hQ u h)))))
theorem xr_10 {fr : xm_Fr} (ht : t < 4000000) (hpc : pc < 160) (ho : a_operation pc = 10) (hS : S.length < 820)
    (k : xm_FF post f_pendingCount f_length f_treeNodes f_emitted f_listing a_pending a_text a_operation a_operand a_opens a_stage a_hole a_treeRule a_treeStart a_treeEnd a_treeDepth t S far dep L kp lk ac) : xm_GG post f_pendingCount f_length f_treeNodes f_emitted f_listing a_pending a_text a_operation a_operand a_opens a_stage a_hole a_treeRule a_treeStart a_treeEnd a_treeDepth t (fr :: S) pc ps far sil dep L kp lk ac := by
  refine xr_st ht hpc (fun g w th fo pa pe n hS' hP hn P hQ => ?_)
  rcases fr with ⟨a, b, c, d⟩
  exact xs_c hpc ho rfl (Or.inr (Or.inr (Or.inr (Or.inl rfl)))) (fun P' hP' => xc_10 (sp := S.length) hpc hS ho rfl (fun P'' hP'' => k _ _ _ _ _ _ _ _ _ n hS'.2 hP hn _ (fun u h => hP'' u (hP' u (hQ u h)))))
theorem xr_9 {x a p cn : Nat} {s : Int32} (ht : t < 4000000) (hpc : pc < 160) (ho : a_operation pc = 9) (ha : a_operand pc = nI x) (hS : S.length < 820) (hc : cn ≤ L.length)
    (k : xm_GG post f_pendingCount f_length f_treeNodes f_emitted f_listing a_pending a_text a_operation a_operand a_opens a_stage a_hole a_treeRule a_treeStart a_treeEnd a_treeDepth (t + 1) S x p far s dep (L.take cn) kp lk ac) : xm_GG post f_pendingCount f_length f_treeNodes f_emitted f_listing a_pending a_text a_operation a_operand a_opens a_stage a_hole a_treeRule a_treeStart a_treeEnd a_treeDepth t ((a, p, cn, s) :: S) pc ps far sil dep L kp lk ac := by
  refine xr_st ht hpc (fun g w th fo pa pe n hS' hP hn P hQ => ?_)
  obtain ⟨⟨_, h2, h3, h4⟩, h5⟩ := hS'
  have k' := k g w th fo pa pe n h5 (xm_P_t hP) hn
  rw [List.length_take, Nat.min_eq_left hc] at k'
  exact xs_c hpc ho ha (Or.inr (Or.inr (Or.inl rfl))) (fun P' hP' => xc_9 (sp := S.length) hpc hS ho h2 h3 h4 (hP' _ (hQ _ k')))
theorem xr_7 {b p cn : Nat} {s : Int32} (ht : t < 4000000) (hpc : pc < 160) (ho : a_operation pc = 7) (ha : a_operand pc = nI b) (hS : S.length < 820) (hp : p < 128) (hps : ps < 128)
    (k0 : p = ps → xm_GG post f_pendingCount f_length f_treeNodes f_emitted f_listing a_pending a_text a_operation a_operand a_opens a_stage a_hole a_treeRule a_treeStart a_treeEnd a_treeDepth (t + 1) S (pc + 1) ps far sil dep L kp lk ac)
    (k1 : p ≠ ps → xm_GG post f_pendingCount f_length f_treeNodes f_emitted f_listing a_pending a_text a_operation a_operand a_opens a_stage a_hole a_treeRule a_treeStart a_treeEnd a_treeDepth (t + 1) ((pc + 1, ps, L.length, s) :: S) b ps far sil dep L kp lk ac) : xm_GG post f_pendingCount f_length f_treeNodes f_emitted f_listing a_pending a_text a_operation a_operand a_opens a_stage a_hole a_treeRule a_treeStart a_treeEnd a_treeDepth t ((pc + 1, p, cn, s) :: S) pc ps far sil dep L kp lk ac := by
  refine xr_st ht hpc (fun g w th fo pa pe n hS' hP hn P hQ => ?_)
  obtain ⟨⟨h1, h2, h3, h4⟩, h5⟩ := hS'
  have hl := hP.1
  refine xs_c hpc ho ha (Or.inr (Or.inl rfl)) (fun P' hP' => nm_e (And.intro (xb_in hpc (by omega)) (nm_r (e' := (7 : Int32)) (by rw [xb_c (by omega), ho]) (br_f (by decide) (br_f (by decide) (br_f (by decide) (br_t rfl ?_)))))))
  rw [nI_1 pc]
  refine xp_round (sp := S.length) hS hp hps (by omega) h2 (fun h => hP' _ (hQ _ (k0 h _ _ _ _ _ _ n h5 hP hn))) (fun h => hP' _ (hQ _ (k1 h _ _ _ _ _ _ n ?_ hP hn)))
  exact ⟨⟨h1, pk_us, pk_us, h4⟩, xm_S_k S (fun x hx => ⟨rfl, pk_un (by omega), pk_un (by omega), rfl⟩) h5⟩
theorem xr_12 {b p cn a : Nat} {s : Int32} (ht : t < 4000000) (hpc : pc < 160) (ho : a_operation pc = 12) (ha : a_operand pc = nI b) (hS : S.length < 820) (hp : p < 128) (hps : ps < 128)
    (k0 : p = ps → xm_GG post f_pendingCount f_length f_treeNodes f_emitted f_listing a_pending a_text a_operation a_operand a_opens a_stage a_hole a_treeRule a_treeStart a_treeEnd a_treeDepth (t + 1) S (pc + 2) ps far sil dep L kp lk ac)
    (k1 : p ≠ ps → xm_GG post f_pendingCount f_length f_treeNodes f_emitted f_listing a_pending a_text a_operation a_operand a_opens a_stage a_hole a_treeRule a_treeStart a_treeEnd a_treeDepth (t + 1) ((pc + 2, ps, L.length, s) :: S) b ps far sil dep L kp lk ac) : xm_GG post f_pendingCount f_length f_treeNodes f_emitted f_listing a_pending a_text a_operation a_operand a_opens a_stage a_hole a_treeRule a_treeStart a_treeEnd a_treeDepth t ((a, p, cn, s) :: S) pc ps far sil dep L kp lk ac := by
  refine xr_st ht hpc (fun g w th fo pa pe n hS' hP hn P hQ => ?_)
  obtain ⟨⟨h1, h2, h3, h4⟩, h5⟩ := hS'
  have hl := hP.1
  have e2 : nI pc + 2 = nI (pc + 2) := nI_add pc 2
  refine xs_c hpc ho ha (Or.inr (Or.inr (Or.inr (Or.inr (Or.inr rfl))))) (fun P' hP' => nm_r (nI_pred S.length) (And.intro (xb_in hpc (by omega)) (nm_r (e' := (12 : Int32)) (by rw [xb_c (by omega), ho]) (br_f (by decide) (br_f (by decide) (br_f (by decide) (br_f (by decide) (br_f (by decide) (br_f (by decide) (br_f (by decide) (br_f (by decide) (br_t rfl (And.intro (xb_in hS (by omega)) (nm_r (e' := upd g S.length (nI (pc + 2))) (by rw [xb_c (by omega), e2, xb_s (by omega)]) ?_))))))))))))))
  rw [e2]
  refine xp_round (sp := S.length) hS hp hps (by omega) h2 (fun h => hP' _ (hQ _ (k0 h _ _ _ _ _ _ n ?_ hP hn))) (fun h => hP' _ (hQ _ (k1 h _ _ _ _ _ _ n ?_ hP hn)))
  · exact xm_S_k S (fun x hx => ⟨pk_un (by omega), rfl, rfl, rfl⟩) h5
  · exact ⟨⟨pk_us, pk_us, pk_us, h4⟩, xm_S_k S (fun x hx => ⟨pk_un (by omega), pk_un (by omega), pk_un (by omega), rfl⟩) h5⟩
/-! calls -/
theorem xr_c0 {r w : Nat} (ht : t < 4000000) (hpc : pc < 160) (ho : a_operation pc = 3) (ha : a_operand pc = nI r) (hr : r < 4) (hps : ps ≤ 16) (hfar : far ≤ 17) (hw : w ≤ 17) (hk : kp (17 * r + ps) = -2) (hl : lk (17 * r + ps) = nI w)
    (k : xm_FF post f_pendingCount f_length f_treeNodes f_emitted f_listing a_pending a_text a_operation a_operand a_opens a_stage a_hole a_treeRule a_treeStart a_treeEnd a_treeDepth t S (max far w) dep L kp lk ac) : xm_GG post f_pendingCount f_length f_treeNodes f_emitted f_listing a_pending a_text a_operation a_operand a_opens a_stage a_hole a_treeRule a_treeStart a_treeEnd a_treeDepth t S pc ps far sil dep L kp lk ac := by
  refine xr_st ht hpc (fun g w th fo pa pe n hS' hP hn P hQ => ?_)
  refine And.intro (xb_in hpc (by omega)) (nm_r (e' := nI r) (by rw [xb_c (by omega), ha]) (And.intro (xb_in hpc (by omega)) (nm_r (e' := (3 : Int32)) (by rw [xb_c (by omega), ho]) (br_f (by decide) (br_f (by decide) (br_f (by decide) (br_f (by decide) (br_t rfl ?_))))))))
  exact xp_call_0 hr hps hfar hw hk hl (fun P' hP' => k _ _ _ _ _ _ _ _ _ n hS' hP hn _ (fun ⟨y1, y2, y3, y4, y5, y6, y7, y8, y9, y10, y11, y12, y13, y14, y15, y16, y17, y18, y19, y20, y21, y22, y23, y24, y25, y26, y27, y28, y29, y30, y31, y32, y33⟩ h => hP' _ (hQ _ h)))
theorem xr_c1 {r w j : Nat} (ht : t < 4000000) (hpc : pc < 160) (ho : a_operation pc = 3) (ha : a_operand pc = nI r) (hr : r < 4) (hps : ps ≤ 16) (hfar : far ≤ 17) (hw : w ≤ 17) (hj : j ≤ 16) (hd : dep < 128) (hk : kp (17 * r + ps) = nI j) (hl : lk (17 * r + ps) = nI w)
    (b : Bool) (hb : b = true → f_listing ≠ 0 ∧ dep = 1 ∧ sil = 0) (hb' : b = false → f_listing = 0 ∨ dep ≠ 1 ∨ sil ≠ 0)
    (k : xm_GG post f_pendingCount f_length f_treeNodes f_emitted f_listing a_pending a_text a_operation a_operand a_opens a_stage a_hole a_treeRule a_treeStart a_treeEnd a_treeDepth (t + 1) S (pc + 1) j (max far w) sil dep (xm_nt b L (17 * r + ps, j)) kp lk ac) : xm_GG post f_pendingCount f_length f_treeNodes f_emitted f_listing a_pending a_text a_operation a_operand a_opens a_stage a_hole a_treeRule a_treeStart a_treeEnd a_treeDepth t S pc ps far sil dep L kp lk ac := by
  refine xr_st ht hpc (fun g w th fo pa pe n hS' hP hn P hQ => ?_)
  refine And.intro (xb_in hpc (by omega)) (nm_r (e' := nI r) (by rw [xb_c (by omega), ha]) (And.intro (xb_in hpc (by omega)) (nm_r (e' := (3 : Int32)) (by rw [xb_c (by omega), ho]) (br_f (by decide) (br_f (by decide) (br_f (by decide) (br_f (by decide) (br_t rfl ?_))))))))
  exact xp_call_1 hr hps hfar hw hj hd hk hl hP b hb hb' (nI_1 pc) (fun pa pe h => hQ _ (k _ _ _ _ _ _ n hS' h hn))
theorem xr_cu {r : Nat} (ht : t < 4000000) (hpc : pc < 160) (ho : a_operation pc = 3) (ha : a_operand pc = nI r) (hr : r < 4) (hps : ps ≤ 16) (hk : kp (17 * r + ps) = -9) (hr0 : a_operation (40 * r) = 0)
    (k : xm_FF post f_pendingCount f_length f_treeNodes f_emitted f_listing a_pending a_text a_operation a_operand a_opens a_stage a_hole a_treeRule a_treeStart a_treeEnd a_treeDepth t S far dep L (upd kp (17 * r + ps) (-2)) (upd lk (17 * r + ps) (nI ps)) ac) : xm_GG post f_pendingCount f_length f_treeNodes f_emitted f_listing a_pending a_text a_operation a_operand a_opens a_stage a_hole a_treeRule a_treeStart a_treeEnd a_treeDepth t S pc ps far sil dep L kp lk ac := by
  refine xr_st ht hpc (fun g w th fo pa pe n hS' hP hn P hQ => ?_)
  refine And.intro (xb_in hpc (by omega)) (nm_r (e' := nI r) (by rw [xb_c (by omega), ha]) (And.intro (xb_in hpc (by omega)) (nm_r (e' := (3 : Int32)) (by rw [xb_c (by omega), ho]) (br_f (by decide) (br_f (by decide) (br_f (by decide) (br_f (by decide) (br_t rfl ?_))))))))
  exact xp_call_u hr hps hk hr0 (fun P' hP' => k _ _ _ _ _ _ _ _ _ n hS' hP hn _ (fun ⟨y1, y2, y3, y4, y5, y6, y7, y8, y9, y10, y11, y12, y13, y14, y15, y16, y17, y18, y19, y20, y21, y22, y23, y24, y25, y26, y27, y28, y29, y30, y31, y32, y33⟩ h => hP' _ (hQ _ h)))
theorem xr_ce {r : Nat} (ht : t < 4000000) (hpc : pc < 160) (ho : a_operation pc = 3) (ha : a_operand pc = nI r) (hr : r < 4) (hps : ps ≤ 16) (hk : kp (17 * r + ps) = -9) (hr0 : a_operation (40 * r) ≠ 0) (hac : ac (17 * r + ps) = 0) (hS : S.length < 820) (hfar : far < 128) (hd : dep < 127)
    (k : xm_GG post f_pendingCount f_length f_treeNodes f_emitted f_listing a_pending a_text a_operation a_operand a_opens a_stage a_hole a_treeRule a_treeStart a_treeEnd a_treeDepth (t + 1) ((pc + 1001, 17 * r + ps, far, nI dep) :: S) (40 * r) ps ps sil (dep + 1) L kp lk (upd ac (17 * r + ps) 1)) : xm_GG post f_pendingCount f_length f_treeNodes f_emitted f_listing a_pending a_text a_operation a_operand a_opens a_stage a_hole a_treeRule a_treeStart a_treeEnd a_treeDepth t S pc ps far sil dep L kp lk ac := by
  refine xr_st ht hpc (fun g w th fo pa pe n hS' hP hn P hQ => ?_)
  refine And.intro (xb_in hpc (by omega)) (nm_r (e' := nI r) (by rw [xb_c (by omega), ha]) (And.intro (xb_in hpc (by omega)) (nm_r (e' := (3 : Int32)) (by rw [xb_c (by omega), ho]) (br_f (by decide) (br_f (by decide) (br_f (by decide) (br_f (by decide) (br_t rfl ?_))))))))
  exact xp_call_e hr hps hk hr0 hac hS (nI_add pc 1001) (by omega) hfar hd (hQ _ (k _ _ _ _ _ _ n (xm_S_p hS') hP hn))
theorem xr_cs {r : Nat} (ht : t < 4000000) (hpc : pc < 160) (ho : a_operation pc = 3) (ha : a_operand pc = nI r) (hr : r < 4) (hps : ps ≤ 16) (hk : kp (17 * r + ps) = -9) (hr0 : a_operation (40 * r) ≠ 0) (hac : ac (17 * r + ps) ≠ 0)
    (k : xm_SK post f_pendingCount f_length f_treeNodes f_emitted f_listing a_pending a_text a_operation a_operand a_opens a_stage a_hole a_treeRule a_treeStart a_treeEnd a_treeDepth kp lk) : xm_GG post f_pendingCount f_length f_treeNodes f_emitted f_listing a_pending a_text a_operation a_operand a_opens a_stage a_hole a_treeRule a_treeStart a_treeEnd a_treeDepth t S pc ps far sil dep L kp lk ac := by
  refine xr_st ht hpc (fun g w th fo pa pe n hS' hP hn P hQ => ?_)
  refine And.intro (xb_in hpc (by omega)) (nm_r (e' := nI r) (by rw [xb_c (by omega), ha]) (And.intro (xb_in hpc (by omega)) (nm_r (e' := (3 : Int32)) (by rw [xb_c (by omega), ho]) (br_f (by decide) (br_f (by decide) (br_f (by decide) (br_f (by decide) (br_t rfl ?_))))))))
  refine xp_call_s hr hps hk hr0 hac (hQ _ ?_)
  obtain ⟨n, rfl⟩ : ∃ m, n = m + 1 := ⟨n - 1, by omega⟩
  exact br_c (fun _ => k _ _ _ _ _ _ _ _ _ _ _ _ _ _) (fun _ => br_c (fun _ => k _ _ _ _ _ _ _ _ _ _ _ _ _ _) (fun _ => br_f (by decide) (k _ _ _ _ _ _ _ _ _ _ _ _ _ _)))
theorem xm_end {n t : Nat} {ps' far' sil' dep' cn' : Int32} {g w th fo pa pe : Nat → Int32} (h : post (f_pendingCount, f_length, 0, (-1), ps', far', sil', dep', cn', f_treeNodes, f_emitted, f_listing, 0, a_pending, a_text, a_operation, a_operand, a_opens, a_stage, a_hole, kp, lk, ac, g, w, th, fo, a_treeRule, a_treeStart, a_treeEnd, a_treeDepth, pa, pe)) :
    wX_go_2 post (n + 1) (nI t) f_pendingCount f_length 0 ((-1)) ps' far' sil' dep' cn' f_treeNodes f_emitted f_listing 0 a_pending a_text a_operation a_operand a_opens a_stage a_hole kp lk ac g w th fo a_treeRule a_treeStart a_treeEnd a_treeDepth pa pe :=
  br_c (fun _ => h) (fun _ => br_t (by decide) h)
theorem xr_4 {p q f0 d : Nat} (ht : t < 4000000) (hpc : pc < 160) (ho : a_operation pc = 4) (hS : S.length < 820) (hS0 : 0 < S.length) (hps : ps < 128) (hfar : far < 128) (hf0 : f0 < 128) (hq : q < 68) (hp : p < 1000) (hd : d < 128)
    (b : Bool) (hb : b = true → f_listing ≠ 0 ∧ d = 1 ∧ sil = 0) (hb' : b = false → f_listing = 0 ∨ d ≠ 1 ∨ sil ≠ 0)
    (k : xm_GG post f_pendingCount f_length f_treeNodes f_emitted f_listing a_pending a_text a_operation a_operand a_opens a_stage a_hole a_treeRule a_treeStart a_treeEnd a_treeDepth (t + 1) S p ps (max f0 far) sil d (xm_nt b L (q, ps)) (upd kp q (nI ps)) (upd lk q (nI far)) (upd ac q 0)) : xm_GG post f_pendingCount f_length f_treeNodes f_emitted f_listing a_pending a_text a_operation a_operand a_opens a_stage a_hole a_treeRule a_treeStart a_treeEnd a_treeDepth t ((p + 1000, q, f0, nI d) :: S) pc ps far sil dep L kp lk ac := by
  refine xr_st ht hpc (fun g w th fo pa pe n hS' hP hn P hQ => ?_)
  obtain ⟨⟨h1, h2, h3, h4⟩, h5⟩ := hS'
  refine And.intro (xb_in hpc (by omega)) (nm_e (And.intro (xb_in hpc (by omega)) (nm_r (e' := (4 : Int32)) (by rw [xb_c (by omega), ho]) (br_f (by decide) (br_f (by decide) (br_f (by decide) (br_f (by decide) (br_f (by decide) (br_t rfl ?_)))))))))
  have i : vp_in (nI S.length) 820 := xb_in hS (by omega)
  have e : (nI S.length).toNatClampNeg = S.length := xb_c (by omega)
  refine xp_finish (sp := S.length) hS hq hfar hf0 h2 h3 h4 (xb_b hps) (And.intro i (nm_r (e' := nI p) (by rw [e, h1]; exact pk_sub (a := p + 1000) (b := 1000) (by omega)) (br_f (nI_ne0 hS0 (by omega)) (And.intro i ?_))))
  rw [show w (nI S.length).toNatClampNeg = nI q by rw [e, h2]]
  exact xp_note hP b hb hb' (by omega) hps hd (fun pa pe h => hQ _ (k _ _ _ _ _ _ n h5 h hn))
theorem xr_4e {a q f0 d : Nat} (ht : t < 4000000) (hpc : pc < 160) (ho : a_operation pc = 4) (hps : ps < 128) (hfar : far < 128) (hf0 : f0 < 128) (hq : q < 68) (hd : d ≠ 1) (hd' : d < 128)
    (k : xm_EN post f_pendingCount f_length f_treeNodes f_emitted f_listing a_pending a_text a_operation a_operand a_opens a_stage a_hole a_treeRule a_treeStart a_treeEnd a_treeDepth L (upd kp q (nI ps)) (upd lk q (nI far)) (upd ac q 0)) : xm_GG post f_pendingCount f_length f_treeNodes f_emitted f_listing a_pending a_text a_operation a_operand a_opens a_stage a_hole a_treeRule a_treeStart a_treeEnd a_treeDepth t [(a, q, f0, nI d)] pc ps far sil dep L kp lk ac := by
  refine xr_st ht hpc (fun g w th fo pa pe n hS' hP hn P hQ => ?_)
  obtain ⟨⟨h1, h2, h3, h4⟩, h5⟩ := hS'
  refine And.intro (xb_in hpc (by omega)) (nm_e (And.intro (xb_in hpc (by omega)) (nm_r (e' := (4 : Int32)) (by rw [xb_c (by omega), ho]) (br_f (by decide) (br_f (by decide) (br_f (by decide) (br_f (by decide) (br_f (by decide) (br_t rfl ?_)))))))))
  have i : vp_in (nI 0) 820 := xb_in (by omega) (by omega)
  have e : (nI 0).toNatClampNeg = 0 := xb_c (by omega)
  refine xp_finish (sp := 0) (by omega) hq hfar hf0 h2 h3 h4 (xb_b hps) (And.intro i (nm_e (br_t rfl (And.intro i ?_))))
  rw [show w (nI 0).toNatClampNeg = nI q by rw [e]; exact h2]
  refine xp_note hP false (fun h => nomatch h) (fun _ => Or.inr (Or.inl hd)) (by omega) hps hd' (fun pa pe h => hQ _ ?_)
  obtain ⟨n, rfl⟩ : ∃ m, n = m + 1 := ⟨n - 1, by omega⟩
  exact xm_end (k _ _ _ _ _ _ _ _ _ _ h)
/-! failing -/
theorem xf_a {a b c : Nat} {d : Int32} (ha : a < 1000) (hS : S.length < 820) (hc : c ≤ L.length)
    (k : xm_GG post f_pendingCount f_length f_treeNodes f_emitted f_listing a_pending a_text a_operation a_operand a_opens a_stage a_hole a_treeRule a_treeStart a_treeEnd a_treeDepth (t + 1) S a b far d dep (L.take c) kp lk ac) : xm_FF post f_pendingCount f_length f_treeNodes f_emitted f_listing a_pending a_text a_operation a_operand a_opens a_stage a_hole a_treeRule a_treeStart a_treeEnd a_treeDepth t ((a, b, c, d) :: S) far dep L kp lk ac := by
  intro pc ps sil g w th fo pa pe n hS' hP hn P hQ
  obtain ⟨⟨h1, h2, h3, h4⟩, h5⟩ := hS'
  have i : vp_in (nI S.length) 820 := xb_in hS (by omega)
  have i' : vp_in (nI (S.length + 1) - 1) 820 := by rw [nI_pred]; exact i
  have e : (nI S.length).toNatClampNeg = S.length := xb_c (by omega)
  have e' : (nI (S.length + 1) - 1).toNatClampNeg = S.length := by rw [nI_pred]; exact e
  have k' := k g w th fo pa pe n h5 (xm_P_t hP) hn
  rw [List.length_take, Nat.min_eq_left hc] at k'
  refine ⟨1, br_f (nI_nle (n := S.length + 1) (by omega) (by omega)) (And.intro i' (br_t ?_ (br_f (nI_ne0 (n := S.length + 1) (by omega) (by omega)) (nm_r (nI_pred S.length) (And.intro i (nm_r (e' := nI a) (by rw [e, h1]) (And.intro i (nm_r (e' := nI b) (by rw [e, h2]) (And.intro i (nm_r (e' := nI c) (by rw [e, h3]) (And.intro i (nm_r (e' := d) (by rw [e, h4]) (hQ _ k')))))))))))))⟩
  show g (nI (S.length + 1) - 1).toNatClampNeg < 1000
  rw [e', h1]
  exact nI_lt (b := 1000) ha (by decide)
theorem xf_c {a q f0 d : Nat} (ha : 1000 ≤ a) (ha' : a < 32768) (hS : S.length < 820) (hq : q < 68) (hfar : far < 128) (hf0 : f0 < 128)
    (k : xm_FF post f_pendingCount f_length f_treeNodes f_emitted f_listing a_pending a_text a_operation a_operand a_opens a_stage a_hole a_treeRule a_treeStart a_treeEnd a_treeDepth t S (max f0 far) d L (upd kp q (-2)) (upd lk q (nI far)) (upd ac q 0)) : xm_FF post f_pendingCount f_length f_treeNodes f_emitted f_listing a_pending a_text a_operation a_operand a_opens a_stage a_hole a_treeRule a_treeStart a_treeEnd a_treeDepth t ((a, q, f0, nI d) :: S) far dep L kp lk ac := by
  intro pc ps sil g w th fo pa pe n hS' hP hn P hQ
  obtain ⟨⟨h1, h2, h3, h4⟩, h5⟩ := hS'
  have i : vp_in (nI S.length) 820 := xb_in hS (by omega)
  have i' : vp_in (nI (S.length + 1) - 1) 820 := by rw [nI_pred]; exact i
  have e' : (nI (S.length + 1) - 1).toNatClampNeg = S.length := by rw [nI_pred]; exact xb_c (by omega)
  obtain ⟨n0, k'⟩ := k pc ps sil g w th fo pa pe n h5 hP hn P hQ
  refine ⟨n0 + 1, br_f (nI_nle (n := S.length + 1) (by omega) (by omega)) (And.intro i' (br_f ?_ (xp_finish (sp := S.length) hS hq hfar hf0 h2 h3 h4 xb_m2 k')))⟩
  show ¬ g (nI (S.length + 1) - 1).toNatClampNeg < 1000
  rw [e', h1]
  exact nI_nlt (b := 1000) ha (by omega)
theorem xf_n (ht : t < 4000000) (k : xm_EN post f_pendingCount f_length f_treeNodes f_emitted f_listing a_pending a_text a_operation a_operand a_opens a_stage a_hole a_treeRule a_treeStart a_treeEnd a_treeDepth L kp lk ac) : xm_FF post f_pendingCount f_length f_treeNodes f_emitted f_listing a_pending a_text a_operation a_operand a_opens a_stage a_hole a_treeRule a_treeStart a_treeEnd a_treeDepth t [] far dep L kp lk ac := by
  intro pc ps sil g w th fo pa pe n hS' hP hn P hQ
  refine ⟨1, br_t (by decide) (br_t rfl (hQ _ ?_))⟩
  obtain ⟨n, rfl⟩ : ∃ m, n = m + 1 := ⟨n - 1, by omega⟩
  exact xm_end (k _ _ _ _ _ _ _ _ _ _ hP)
end
end
section
/-! code of a cell, the memo, the budget -/
def xl_lf (tk : Nat → Nat) (op ar : Nat → Int32) (e c : Nat) : Prop :=
  (tk e = 1 ∧ op c = 2) ∨ (tk e = 3 ∧ op c = 1 ∧ ar c = nI (tk (e + 1) * 128 + tk (e + 2))) ∨ (24 ≤ tk e ∧ op c = 1 ∧ ar c = nI (tk e * 128 + tk e))
def xl_Lay (tk nx : Nat → Nat) (op ar : Nat → Int32) : Nat → Nat → Nat → Nat → Prop
  | 0, _, _, _ => False
  | m + 1, e, c, d =>
    if tk e = 2 then d = c
    else if tk e = 10 then ∃ x, xl_Lay tk nx op ar m (e + 1) c x ∧ xl_Lay tk nx op ar m (nx (e + 1)) x d
    else if tk e = 11 then ∃ x, op c = 5 ∧ ar c = nI (x + 1) ∧ xl_Lay tk nx op ar m (e + 1) (c + 1) x ∧ op x = 6 ∧ ar x = nI d ∧ xl_Lay tk nx op ar m (nx (e + 1)) (x + 1) d
    else if tk e = 12 then ∃ x, op c = 5 ∧ ar c = nI (x + 1) ∧ xl_Lay tk nx op ar m (e + 1) (c + 1) x ∧ op x = 7 ∧ ar x = nI (c + 1) ∧ d = x + 1
    else if tk e = 13 then ∃ x, op c = 5 ∧ ar c = nI (x + 1) ∧ xl_Lay tk nx op ar m (e + 1) (c + 1) x ∧ op x = 12 ∧ ar x = nI (c + 1) ∧ op (x + 1) = 11 ∧ d = x + 2
    else if tk e = 14 then ∃ x, op c = 5 ∧ ar c = nI (x + 1) ∧ xl_Lay tk nx op ar m (e + 1) (c + 1) x ∧ op x = 6 ∧ ar x = nI (x + 1) ∧ d = x + 1
    else if tk e = 15 then ∃ x, op c = 8 ∧ ar c = nI (x + 1) ∧ xl_Lay tk nx op ar m (e + 1) (c + 1) x ∧ op x = 9 ∧ ar x = nI (x + 2) ∧ op (x + 1) = 11 ∧ d = x + 2
    else if tk e = 16 then ∃ x, op c = 8 ∧ ar c = nI (x + 1) ∧ xl_Lay tk nx op ar m (e + 1) (c + 1) x ∧ op x = 10 ∧ d = x + 1
    else if 20 ≤ tk e ∧ tk e ≤ 23 then op c = 3 ∧ ar c = nI (tk e - 20) ∧ d = c + 1
    else xl_lf tk op ar e c ∧ d = c + 1
section
variable {tk nx ln c : Nat → Nat} {op ar : Nat → Int32} {m e a d N : Nat}
theorem xl_2 (h : tk e = 2) : xl_Lay tk nx op ar (m + 1) e a d ↔ d = a := by
  unfold xl_Lay; rw [if_pos h]
theorem xl_10 (h : tk e = 10) : xl_Lay tk nx op ar (m + 1) e a d ↔ ∃ x, xl_Lay tk nx op ar m (e + 1) a x ∧ xl_Lay tk nx op ar m (nx (e + 1)) x d := by
  conv => lhs; unfold xl_Lay
  rw [if_neg (by omega), if_pos h]
theorem xl_11 (h : tk e = 11) : xl_Lay tk nx op ar (m + 1) e a d ↔ ∃ x, op a = 5 ∧ ar a = nI (x + 1) ∧ xl_Lay tk nx op ar m (e + 1) (a + 1) x ∧ op x = 6 ∧ ar x = nI d ∧ xl_Lay tk nx op ar m (nx (e + 1)) (x + 1) d := by
  conv => lhs; unfold xl_Lay
  rw [if_neg (by omega), if_neg (by omega), if_pos h]
theorem xl_12 (h : tk e = 12) : xl_Lay tk nx op ar (m + 1) e a d ↔ ∃ x, op a = 5 ∧ ar a = nI (x + 1) ∧ xl_Lay tk nx op ar m (e + 1) (a + 1) x ∧ op x = 7 ∧ ar x = nI (a + 1) ∧ d = x + 1 := by
  conv => lhs; unfold xl_Lay
  rw [if_neg (by omega), if_neg (by omega), if_neg (by omega), if_pos h]
theorem xl_13 (h : tk e = 13) : xl_Lay tk nx op ar (m + 1) e a d ↔ ∃ x, op a = 5 ∧ ar a = nI (x + 1) ∧ xl_Lay tk nx op ar m (e + 1) (a + 1) x ∧ op x = 12 ∧ ar x = nI (a + 1) ∧ op (x + 1) = 11 ∧ d = x + 2 := by
  conv => lhs; unfold xl_Lay
  rw [if_neg (by omega), if_neg (by omega), if_neg (by omega), if_neg (by omega), if_pos h]
theorem xl_14 (h : tk e = 14) : xl_Lay tk nx op ar (m + 1) e a d ↔ ∃ x, op a = 5 ∧ ar a = nI (x + 1) ∧ xl_Lay tk nx op ar m (e + 1) (a + 1) x ∧ op x = 6 ∧ ar x = nI (x + 1) ∧ d = x + 1 := by
  conv => lhs; unfold xl_Lay
  rw [if_neg (by omega), if_neg (by omega), if_neg (by omega), if_neg (by omega), if_neg (by omega), if_pos h]
theorem xl_15 (h : tk e = 15) : xl_Lay tk nx op ar (m + 1) e a d ↔ ∃ x, op a = 8 ∧ ar a = nI (x + 1) ∧ xl_Lay tk nx op ar m (e + 1) (a + 1) x ∧ op x = 9 ∧ ar x = nI (x + 2) ∧ op (x + 1) = 11 ∧ d = x + 2 := by
  conv => lhs; unfold xl_Lay
  rw [if_neg (by omega), if_neg (by omega), if_neg (by omega), if_neg (by omega), if_neg (by omega), if_neg (by omega), if_pos h]
theorem xl_16 (h : tk e = 16) : xl_Lay tk nx op ar (m + 1) e a d ↔ ∃ x, op a = 8 ∧ ar a = nI (x + 1) ∧ xl_Lay tk nx op ar m (e + 1) (a + 1) x ∧ op x = 10 ∧ d = x + 1 := by
  conv => lhs; unfold xl_Lay
  rw [if_neg (by omega), if_neg (by omega), if_neg (by omega), if_neg (by omega), if_neg (by omega), if_neg (by omega), if_neg (by omega), if_pos h]
theorem xl_c {r : Nat} (hr : r < 4) (h : tk e = 20 + r) : xl_Lay tk nx op ar (m + 1) e a d ↔ op a = 3 ∧ ar a = nI r ∧ d = a + 1 := by
  have hh : tk e - 20 = r := by omega
  conv => lhs; unfold xl_Lay
  rw [if_neg (by omega), if_neg (by omega), if_neg (by omega), if_neg (by omega), if_neg (by omega), if_neg (by omega), if_neg (by omega), if_neg (by omega), if_pos (by omega), hh]
theorem xl_l (h : tk e = 1 ∨ tk e = 3 ∨ 24 ≤ tk e) : xl_Lay tk nx op ar (m + 1) e a d ↔ xl_lf tk op ar e a ∧ d = a + 1 := by
  conv => lhs; unfold xl_Lay
  rw [if_neg (by omega), if_neg (by omega), if_neg (by omega), if_neg (by omega), if_neg (by omega), if_neg (by omega), if_neg (by omega), if_neg (by omega), if_neg (by omega)]
/-- the size of the code -/
theorem xl_sz (hG : pg_G tk nx ln) : ∀ (m e a d : Nat), pg_C nx ln e → xl_Lay tk nx op ar m e a d → a ≤ d ∧ d ≤ a + 3 * (nx e - e) := by
  intro m
  induction m with
  | zero => exact fun _ _ _ _ h => h.elim
  | succ m ih =>
    intro e a d he h
    have hv := pg_C_v hG he
    rcases pg_tc hv.1 with t | t | t | t | t | t | t | t | ⟨r, hr, t⟩ | t
    · rw [xl_2 t] at h; omega
    · obtain ⟨x, h1, h2⟩ := (xl_10 t).mp h
      obtain ⟨s1, s2, s3, s4, s5⟩ := pg_C_b hG he (Or.inl t)
      have := ih _ _ _ s1 h1
      have := ih _ _ _ s2 h2
      omega
    · obtain ⟨x, _, _, h1, _, _, h2⟩ := (xl_11 t).mp h
      obtain ⟨s1, s2, s3, s4, s5⟩ := pg_C_b hG he (Or.inr t)
      have := ih _ _ _ s1 h1
      have := ih _ _ _ s2 h2
      omega
    · obtain ⟨x, _, _, h1, _, _, h2⟩ := (xl_12 t).mp h
      obtain ⟨s1, s2, s3⟩ := pg_C_u hG he (by omega)
      have := ih _ _ _ s1 h1
      omega
    · obtain ⟨x, _, _, h1, _, _, _, h2⟩ := (xl_13 t).mp h
      obtain ⟨s1, s2, s3⟩ := pg_C_u hG he (by omega)
      have := ih _ _ _ s1 h1
      omega
    · obtain ⟨x, _, _, h1, _, _, h2⟩ := (xl_14 t).mp h
      obtain ⟨s1, s2, s3⟩ := pg_C_u hG he (by omega)
      have := ih _ _ _ s1 h1
      omega
    · obtain ⟨x, _, _, h1, _, _, _, h2⟩ := (xl_15 t).mp h
      obtain ⟨s1, s2, s3⟩ := pg_C_u hG he (by omega)
      have := ih _ _ _ s1 h1
      omega
    · obtain ⟨x, _, _, h1, _, h2⟩ := (xl_16 t).mp h
      obtain ⟨s1, s2, s3⟩ := pg_C_u hG he (by omega)
      have := ih _ _ _ s1 h1
      omega
    · obtain ⟨_, _, h2⟩ := (xl_c hr t).mp h
      omega
    · obtain ⟨_, h2⟩ := (xl_l t).mp h
      omega
/-- the code depends on its own cells -/
theorem xl_fr {op' ar' : Nat → Int32} (hG : pg_G tk nx ln) : ∀ (m e a d : Nat), pg_C nx ln e → xl_Lay tk nx op ar m e a d → (∀ x, a ≤ x → x < d → op' x = op x ∧ ar' x = ar x) → xl_Lay tk nx op' ar' m e a d := by
  intro m
  induction m with
  | zero => exact fun _ _ _ _ h _ => h.elim
  | succ m ih =>
    intro e a d he h hx
    have hv := pg_C_v hG he
    rcases pg_tc hv.1 with t | t | t | t | t | t | t | t | ⟨r, hr, t⟩ | t
    · rw [xl_2 t] at h ⊢; exact h
    · obtain ⟨x, h1, h2⟩ := (xl_10 t).mp h
      obtain ⟨s1, s2, s3, s4, s5⟩ := pg_C_b hG he (Or.inl t)
      have z1 := xl_sz hG _ _ _ _ s1 h1
      have z2 := xl_sz hG _ _ _ _ s2 h2
      exact (xl_10 t).mpr ⟨x, ih _ _ _ s1 h1 (fun y u v => hx y (by omega) (by omega)), ih _ _ _ s2 h2 (fun y u v => hx y (by omega) (by omega))⟩
    · obtain ⟨x, g1, g2, h1, g3, g4, h2⟩ := (xl_11 t).mp h
      obtain ⟨s1, s2, s3, s4, s5⟩ := pg_C_b hG he (Or.inr t)
      have z1 := xl_sz hG _ _ _ _ s1 h1
      have z2 := xl_sz hG _ _ _ _ s2 h2
      exact (xl_11 t).mpr ⟨x, (hx _ (by omega) (by omega)).1.trans g1, (hx _ (by omega) (by omega)).2.trans g2, ih _ _ _ s1 h1 (fun y u v => hx y (by omega) (by omega)), (hx _ (by omega) (by omega)).1.trans g3, (hx _ (by omega) (by omega)).2.trans g4, ih _ _ _ s2 h2 (fun y u v => hx y (by omega) (by omega))⟩
    · obtain ⟨x, g1, g2, h1, g3, g4, h2⟩ := (xl_12 t).mp h
      obtain ⟨s1, s2, s3⟩ := pg_C_u hG he (by omega)
      have z1 := xl_sz hG _ _ _ _ s1 h1
      exact (xl_12 t).mpr ⟨x, (hx _ (by omega) (by omega)).1.trans g1, (hx _ (by omega) (by omega)).2.trans g2, ih _ _ _ s1 h1 (fun y u v => hx y (by omega) (by omega)), (hx _ (by omega) (by omega)).1.trans g3, (hx _ (by omega) (by omega)).2.trans g4, h2⟩
    · obtain ⟨x, g1, g2, h1, g3, g4, g5, h2⟩ := (xl_13 t).mp h
      obtain ⟨s1, s2, s3⟩ := pg_C_u hG he (by omega)
      have z1 := xl_sz hG _ _ _ _ s1 h1
      exact (xl_13 t).mpr ⟨x, (hx _ (by omega) (by omega)).1.trans g1, (hx _ (by omega) (by omega)).2.trans g2, ih _ _ _ s1 h1 (fun y u v => hx y (by omega) (by omega)), (hx _ (by omega) (by omega)).1.trans g3, (hx _ (by omega) (by omega)).2.trans g4, (hx _ (by omega) (by omega)).1.trans g5, h2⟩
    · obtain ⟨x, g1, g2, h1, g3, g4, h2⟩ := (xl_14 t).mp h
      obtain ⟨s1, s2, s3⟩ := pg_C_u hG he (by omega)
      have z1 := xl_sz hG _ _ _ _ s1 h1
      exact (xl_14 t).mpr ⟨x, (hx _ (by omega) (by omega)).1.trans g1, (hx _ (by omega) (by omega)).2.trans g2, ih _ _ _ s1 h1 (fun y u v => hx y (by omega) (by omega)), (hx _ (by omega) (by omega)).1.trans g3, (hx _ (by omega) (by omega)).2.trans g4, h2⟩
    · obtain ⟨x, g1, g2, h1, g3, g4, g5, h2⟩ := (xl_15 t).mp h
      obtain ⟨s1, s2, s3⟩ := pg_C_u hG he (by omega)
      have z1 := xl_sz hG _ _ _ _ s1 h1
      exact (xl_15 t).mpr ⟨x, (hx _ (by omega) (by omega)).1.trans g1, (hx _ (by omega) (by omega)).2.trans g2, ih _ _ _ s1 h1 (fun y u v => hx y (by omega) (by omega)), (hx _ (by omega) (by omega)).1.trans g3, (hx _ (by omega) (by omega)).2.trans g4, (hx _ (by omega) (by omega)).1.trans g5, h2⟩
    · obtain ⟨x, g1, g2, h1, g3, h2⟩ := (xl_16 t).mp h
      obtain ⟨s1, s2, s3⟩ := pg_C_u hG he (by omega)
      have z1 := xl_sz hG _ _ _ _ s1 h1
      exact (xl_16 t).mpr ⟨x, (hx _ (by omega) (by omega)).1.trans g1, (hx _ (by omega) (by omega)).2.trans g2, ih _ _ _ s1 h1 (fun y u v => hx y (by omega) (by omega)), (hx _ (by omega) (by omega)).1.trans g3, h2⟩
    · obtain ⟨g1, g2, h2⟩ := (xl_c hr t).mp h
      exact (xl_c hr t).mpr ⟨(hx _ (by omega) (by omega)).1.trans g1, (hx _ (by omega) (by omega)).2.trans g2, h2⟩
    · obtain ⟨g, h2⟩ := (xl_l t).mp h
      have y := hx a (by omega) (by omega)
      refine (xl_l t).mpr ⟨?_, h2⟩
      unfold xl_lf
      rw [y.1, y.2]
      exact g
/-- what a leaf's code tests -/
theorem xl_lt (hG : pg_G tk nx ln) (he : pg_C nx ln e) (hN : ∀ x, N ≤ x → c x = 0) (hc : ∀ j, j < N → 97 ≤ c j ∧ c j ≤ 122) (t : tk e = 1 ∨ tk e = 3 ∨ 24 ≤ tk e) (h : xl_lf tk op ar e a) :
    ∃ lo hi, lo < 128 ∧ hi < 128 ∧ ((op a = 1 ∧ ar a = nI (lo * 128 + hi)) ∨ (op a = 2 ∧ lo = 0 ∧ hi = 127)) ∧ ∀ i, (i < N ∧ lo ≤ c i ∧ c i ≤ hi) ↔ pg_gd tk (c i) e = true := by
  have hv := pg_C_v hG he
  have hz : ∀ i, ¬ i < N → c i = 0 := fun i hi => hN i (by omega)
  unfold xl_lf at h
  rcases h with ⟨h1, h2⟩ | ⟨h1, h2, h3⟩ | ⟨h1, h2, h3⟩
  · refine ⟨0, 127, by omega, by omega, Or.inr ⟨h2, rfl, rfl⟩, fun i => ?_⟩
    unfold pg_gd
    rw [if_pos h1, decide_eq_true_iff]
    by_cases z : i < N
    · have := hc i z; omega
    · have := hz i z; omega
  · have h4 := hv.2.2.1 h1
    refine ⟨tk (e + 1), tk (e + 2), by omega, by omega, Or.inl ⟨h2, h3⟩, fun i => ?_⟩
    unfold pg_gd
    rw [if_neg (by omega), if_pos h1, decide_eq_true_iff]
    by_cases z : i < N
    · have := hc i z; omega
    · have := hz i z; omega
  · have h4 : 97 ≤ tk e ∧ tk e ≤ 122 := by have := hv.1; unfold pg_tv at this; omega
    refine ⟨tk e, tk e, by omega, by omega, Or.inl ⟨h2, h3⟩, fun i => ?_⟩
    unfold pg_gd
    rw [if_neg (by omega), if_neg (by omega), decide_eq_true_iff]
    by_cases z : i < N
    · have := hc i z; omega
    · have := hz i z; omega
end
/-! the memo -/
def xl_en (o : Nat) : Int32 := if o = 1 then -2 else nI (o - 2)
def xl_V (tk nx ln c : Nat → Nat) (r i o w : Nat) : Prop := (ln r = 0 ∧ o = 1 ∧ w = i) ∨ (ln r ≠ 0 ∧ o ≠ 0 ∧ ∃ n k p, (pg_ev tk nx ln c n).1 (12 * r) i = (o, w, k, p))
def xl_M (tk nx ln c : Nat → Nat) (N : Nat) (kp lk : Nat → Int32) : Prop := ∀ r i, r < 4 → i ≤ N → kp (17 * r + i) = -9 ∨ ∃ o w, xl_V tk nx ln c r i o w ∧ kp (17 * r + i) = xl_en o ∧ lk (17 * r + i) = nI w
theorem xl_M_u {tk nx ln c : Nat → Nat} {N r i o w : Nat} {kp lk : Nat → Int32} (hN : N ≤ 16) (h : xl_M tk nx ln c N kp lk) (hi : i ≤ N) (hv : xl_V tk nx ln c r i o w) : xl_M tk nx ln c N (upd kp (17 * r + i) (xl_en o)) (upd lk (17 * r + i) (nI w)) := by
  intro r' i' hr' hi'
  by_cases z : 17 * r' + i' = 17 * r + i
  · obtain rfl : r' = r := by omega
    obtain rfl : i' = i := by omega
    exact Or.inr ⟨o, w, hv, pk_us, pk_us⟩
  · rw [pk_un z, pk_un z]
    exact h r' i' hr' hi'
theorem xl_m9 : ∀ o, o ≠ 0 → o ≤ 18 → xl_en o ≠ -9 := by
  intro o h h2
  have : ∀ o : Fin 19, o.val ≠ 0 → xl_en o.val ≠ -9 := by decide +kernel
  exact this ⟨o, by omega⟩ h
/-! the budget: what frames may still cost; how many frames there are -/
def xl_pot (kp ac : Nat → Int32) : Nat → Nat
  | 0 => 0
  | q + 1 => xl_pot kp ac q + (if kp q = -9 ∧ ac q = 0 then pt_T (16 - q % 17) else 0)
def xl_cnt (ac : Nat → Int32) : Nat → Nat
  | 0 => 0
  | q + 1 => xl_cnt ac q + (if ac q = 0 then 0 else 1)
def xl_tot : Nat → Nat
  | 0 => 0
  | q + 1 => xl_tot q + pt_T (16 - q % 17)
theorem xl_pot_le (kp ac : Nat → Int32) : ∀ n, xl_pot kp ac n ≤ xl_tot n
  | 0 => Nat.le_refl 0
  | n + 1 => by
    have := xl_pot_le kp ac n
    show xl_pot kp ac n + _ ≤ xl_tot n + _
    split <;> omega
theorem xl_tot_68 : xl_tot 68 = 1367232 := by decide +kernel
theorem xl_pot_o {kp ac kp' ac' : Nat → Int32} : ∀ n, (∀ q, q < n → kp' q = kp q ∧ ac' q = ac q) → xl_pot kp' ac' n = xl_pot kp ac n
  | 0, _ => rfl
  | n + 1, h => by
    show xl_pot kp' ac' n + _ = xl_pot kp ac n + _
    rw [xl_pot_o n (fun q hq => h q (by omega)), (h n (by omega)).1, (h n (by omega)).2]
theorem xl_pot_e {kp ac : Nat → Int32} {q : Nat} (hk : kp q = -9) (ha : ac q = 0) : ∀ n, q < n → xl_pot kp (upd ac q 1) n + pt_T (16 - q % 17) = xl_pot kp ac n
  | 0, h => absurd h (by omega)
  | n + 1, h => by
    show xl_pot kp (upd ac q 1) n + _ + _ = xl_pot kp ac n + _
    by_cases z : n = q
    · subst z
      rw [xl_pot_o (kp := kp) (ac := ac) n (fun x hx => ⟨rfl, pk_un (by omega)⟩), if_neg (fun y => absurd y.2 (by rw [pk_us]; decide)), if_pos ⟨hk, ha⟩]
      omega
    · have := xl_pot_e hk ha n (by omega)
      rw [pk_un z]
      omega
theorem xl_pot_f {kp ac : Nat → Int32} {q : Nat} {v : Int32} (hv : v ≠ -9) : ∀ n, xl_pot (upd kp q v) ac n = xl_pot kp (upd ac q 1) n
  | 0 => rfl
  | n + 1 => by
    show xl_pot (upd kp q v) ac n + _ = xl_pot kp (upd ac q 1) n + _
    rw [xl_pot_f hv n]
    by_cases z : n = q
    · subst z
      rw [if_neg (fun y => absurd y.1 (by rw [pk_us]; exact hv)), if_neg (fun y => absurd y.2 (by rw [pk_us]; decide))]
    · rw [pk_un z, pk_un z]
theorem xl_pot_s {kp ac : Nat → Int32} {q : Nat} {v : Int32} (hv : v ≠ -9) : ∀ n, xl_pot (upd kp q v) ac n ≤ xl_pot kp ac n
  | 0 => Nat.le_refl 0
  | n + 1 => by
    have := xl_pot_s (kp := kp) (ac := ac) (q := q) hv n
    show xl_pot (upd kp q v) ac n + _ ≤ xl_pot kp ac n + _
    by_cases z : n = q
    · subst z
      rw [if_neg (fun y => absurd y.1 (by rw [pk_us]; exact hv))]
      omega
    · rw [pk_un z]
      omega
theorem xl_cnt_o {ac ac' : Nat → Int32} : ∀ n, (∀ q, q < n → ac' q = ac q) → xl_cnt ac' n = xl_cnt ac n
  | 0, _ => rfl
  | n + 1, h => by
    show xl_cnt ac' n + _ = xl_cnt ac n + _
    rw [xl_cnt_o n (fun q hq => h q (by omega)), h n (by omega)]
theorem xl_cnt_e {ac : Nat → Int32} {q : Nat} (ha : ac q = 0) : ∀ n, q < n → xl_cnt (upd ac q 1) n = xl_cnt ac n + 1
  | 0, h => absurd h (by omega)
  | n + 1, h => by
    show xl_cnt (upd ac q 1) n + _ = xl_cnt ac n + _ + 1
    by_cases z : n = q
    · subst z
      rw [xl_cnt_o (ac := ac) n (fun x hx => pk_un (by omega)), pk_us, ha, if_neg (by decide), if_pos rfl]
    · have := xl_cnt_e ha n (by omega)
      rw [pk_un z]
      omega
theorem xl_cnt_le (ac : Nat → Int32) : ∀ n, xl_cnt ac n ≤ n
  | 0 => Nat.le_refl 0
  | n + 1 => by
    have := xl_cnt_le ac n
    show xl_cnt ac n + _ ≤ n + 1
    split <;> omega
theorem xl_cnt_0 : ∀ n, xl_cnt (fun _ => 0) n = 0
  | 0 => rfl
  | n + 1 => by
    show xl_cnt (fun _ => 0) n + _ = 0
    rw [xl_cnt_0 n, if_pos rfl]
theorem xl_uu {ac : Nat → Int32} {q : Nat} (ha : ac q = 0) : upd (upd ac q 1) q 0 = ac := by
  funext x
  by_cases z : x = q
  · subst z; rw [pk_us, ha]
  · rw [pk_un z, pk_un z]
/-! lists -/
def xl_ap (b : Bool) (L p : List (Nat × Nat)) : List (Nat × Nat) := if b = true then (L ++ p).take 30 else L
theorem xl_ap_n {b : Bool} {L : List (Nat × Nat)} (h : L.length ≤ 30) : xl_ap b L [] = L := by
  cases b
  · rfl
  · show (L ++ []).take 30 = L
    rw [List.append_nil, List.take_of_length_le h]
theorem xl_ap_a {b : Bool} {L p q : List (Nat × Nat)} : xl_ap b (xl_ap b L p) q = xl_ap b L (p ++ q) := by
  cases b
  · rfl
  · show ((L ++ p).take 30 ++ q).take 30 = (L ++ (p ++ q)).take 30
    rw [← List.append_assoc, List.take_append (l₁ := L ++ p)]
    rw [List.take_append]
    rw [List.take_take, Nat.min_self]
    by_cases z : (L ++ p).length ≤ 30
    · rw [List.take_of_length_le z]
    · rw [List.length_take, Nat.min_eq_left (by omega), Nat.sub_self, show 30 - (L ++ p).length = 0 by omega]
theorem xl_ap_l {b : Bool} {L p : List (Nat × Nat)} (h : L.length ≤ 30) : (xl_ap b L p).length ≤ 30 ∧ L <+: xl_ap b L p := by
  cases b
  · exact ⟨h, List.prefix_refl L⟩
  · refine ⟨by show ((L ++ p).take 30).length ≤ 30; rw [List.length_take]; omega, ?_⟩
    show L <+: (L ++ p).take 30
    rw [List.take_append, List.take_of_length_le h]
    exact List.prefix_append _ _
theorem xl_ap_x {b : Bool} {L : List (Nat × Nat)} {x : Nat × Nat} (h : L.length ≤ 30) : xm_nt b L x = xl_ap b L [x] := by
  cases b
  · exact if_neg (by simp)
  · show (if true = true ∧ L.length < 30 then L ++ [x] else L) = (L ++ [x]).take 30
    by_cases z : L.length < 30
    · rw [if_pos ⟨rfl, z⟩, List.take_of_length_le (by rw [List.length_append]; show L.length + 1 ≤ 30; omega)]
    · rw [if_neg (by omega), List.take_append, show 30 - L.length = 0 by omega, List.take_of_length_le h, List.take_zero, List.append_nil]
end
section
/-! where a value exists the machine finds it -/
def xl_H (tk nx ln c : Nat → Nat) (N n : Nat) (ac : Nat → Int32) : Prop := ∀ r j, r < 4 → j ≤ N → ac (17 * r + j) ≠ 0 → ((pg_ev tk nx ln c n).1 (12 * r) j).1 = 0
theorem xl_H_le {tk nx ln c : Nat → Nat} {N n m : Nat} {ac : Nat → Int32} (h : xl_H tk nx ln c N n ac) (hm : m ≤ n) : xl_H tk nx ln c N m ac := by
  intro r j hr hj ha
  have := h r j hr hj ha
  by_cases z : ((pg_ev tk nx ln c m).1 (12 * r) j).1 = 0
  · exact z
  · rw [pg_ev_D hm z] at this
    exact this
def xl_b (li : Int32) (dep : Nat) (sil : Int32) (m : Nat) (b : Bool) : Prop := (b = true → li ≠ 0 ∧ dep = 1 ∧ sil = 0) ∧ (b = false → li = 0 ∨ dep ≠ 1 ∨ (1 ≤ sil.toInt ∧ sil.toInt + m ≤ 100))
def xl_sb (sil sil' : Int32) : Prop := -128 ≤ sil.toInt → sil.toInt < 128 → sil' = sil
theorem xl_b_m {li : Int32} {dep m m' : Nat} {sil : Int32} {b : Bool} (h : xl_b li dep sil m b) (hm : m' ≤ m) : xl_b li dep sil m' b := by
  refine ⟨h.1, fun y => ?_⟩
  rcases h.2 y with z | z | z
  · exact Or.inl z
  · exact Or.inr (Or.inl z)
  · exact Or.inr (Or.inr ⟨z.1, by omega⟩)
theorem xl_b_s {li : Int32} {dep m : Nat} {sil sil' : Int32} {b : Bool} (h : xl_b li dep sil m b) (hs : xl_sb sil sil') : xl_b li dep sil' m b := by
  refine ⟨fun y => ?_, fun y => ?_⟩
  · obtain ⟨h1, h2, h3⟩ := h.1 y
    refine ⟨h1, h2, ?_⟩
    subst h3
    exact hs (by decide) (by decide)
  · rcases h.2 y with z | z | z
    · exact Or.inl z
    · exact Or.inr (Or.inl z)
    · rw [hs (by omega) (by omega)]
      exact Or.inr (Or.inr z)
theorem xl_b_q {li : Int32} {dep m : Nat} {sil : Int32} {b : Bool} (h : xl_b li dep sil m b) : (b = true → li ≠ 0 ∧ dep = 1 ∧ sil = 0) ∧ (b = false → li = 0 ∨ dep ≠ 1 ∨ sil ≠ 0) := by
  refine ⟨h.1, fun y => ?_⟩
  rcases h.2 y with z | z | z
  · exact Or.inl z
  · exact Or.inr (Or.inl z)
  · refine Or.inr (Or.inr (fun q => ?_))
    rw [q, show (0 : Int32).toInt = 0 by decide] at z
    omega
theorem xl_sb_t {a b c : Int32} (h : xl_sb a b) (h' : xl_sb b c) : xl_sb a c := by
  intro h1 h2
  have := h h1 h2
  subst this
  exact h' h1 h2
theorem xl_sb_r {a : Int32} : xl_sb a a := fun _ _ => rfl
theorem xl_sb_b {a : Int32} : xl_sb a a.toInt8.toInt32 := fun h1 h2 => lg_i2b_small h1 h2
/-- silence goes up: quiet -/
theorem xl_b_u {li : Int32} {dep m : Nat} {sil : Int32} {b : Bool} (h : xl_b li dep sil (m + 1) b) (hm : m ≤ 48) : xl_b li dep (sil + 1) m false := by
  refine ⟨fun y => (nomatch y), fun _ => ?_⟩
  have key : ∀ s : Int32, 0 ≤ s.toInt → s.toInt + (m + 1) ≤ 100 → 1 ≤ (s + 1).toInt ∧ (s + 1).toInt + m ≤ 100 := by
    intro s h1 h2
    rw [Int32.toInt_add, show (1 : Int32).toInt = 1 by decide, Int.bmod_eq_of_le (by omega) (by omega)]
    omega
  cases b
  · rcases h.2 rfl with z | z | z
    · exact Or.inl z
    · exact Or.inr (Or.inl z)
    · exact Or.inr (Or.inr (key sil (by omega) (by omega)))
  · obtain ⟨_, _, h3⟩ := h.1 rfl
    subst h3
    exact Or.inr (Or.inr (key 0 (by decide) (by rw [show (0 : Int32).toInt = 0 by decide]; omega)))
def xl_X (f_length : Int32) (a_text a_operation a_operand : Nat → Int32) (tk nx ln c : Nat → Nat) (N : Nat) : Prop :=
  pg_G tk nx ln ∧ N ≤ 16 ∧ f_length = nI N ∧ (∀ x, N ≤ x → c x = 0) ∧ (∀ j, j < N → a_text j = nI (c j) ∧ 97 ≤ c j ∧ c j ≤ 122) ∧
  (∀ r, r < 4 → (ln r = 0 → a_operation (40 * r) = 0) ∧ (ln r ≠ 0 → a_operation (40 * r) ≠ 0 ∧ ∃ m x, x < 160 ∧ a_operation x = 4 ∧ xl_Lay tk nx a_operation a_operand m (12 * r) (40 * r) x))
def xl_LA (post : SX → Prop) (f_pendingCount f_length f_treeNodes f_emitted f_listing : Int32) (a_pending a_text a_operation a_operand a_opens a_stage a_hole a_treeRule a_treeStart a_treeEnd a_treeDepth : Nat → Int32) (tk nx ln c : Nat → Nat) (N ρ : Nat) : Prop := ∀ (e i o w k : Nat) (p : List (Nat × Nat)) (m c1 c2 t : Nat) (S : List xm_Fr) (far : Nat) (sil : Int32) (dep : Nat) (L : List (Nat × Nat)) (kp lk ac : Nat → Int32) (b : Bool), pg_C nx ln e → xl_Lay tk nx a_operation a_operand m e c1 c2 → c2 < 160 → (pg_ev tk nx ln c ρ).1 e i = (o, w, k, p) → i ≤ N → i ≤ far → far ≤ 17 → xl_H tk nx ln c N (ρ - 1) ac → xl_M tk nx ln c N kp lk → dep = xl_cnt ac 68 → 1 ≤ dep → 1 ≤ S.length → S.length + (nx e - e) ≤ 12 * dep + 1 → t + xl_pot kp ac 68 + k < 4000000 → L.length ≤ 30 → xl_b f_listing dep sil (nx e - e) b → (o = 1 → (∀ (t' far' : Nat) (L' : List (Nat × Nat)) (kp' lk' : Nat → Int32), far' = max far w → t' + 1 + xl_pot kp' ac 68 ≤ t + xl_pot kp ac 68 + k → xl_M tk nx ln c N kp' lk' → L <+: L' → xm_FF post f_pendingCount f_length f_treeNodes f_emitted f_listing a_pending a_text a_operation a_operand a_opens a_stage a_hole a_treeRule a_treeStart a_treeEnd a_treeDepth t' S far' dep L' kp' lk' ac) → xm_GG post f_pendingCount f_length f_treeNodes f_emitted f_listing a_pending a_text a_operation a_operand a_opens a_stage a_hole a_treeRule a_treeStart a_treeEnd a_treeDepth t S c1 i far sil dep L kp lk ac) ∧ (∀ j, o = j + 2 → (∀ (t' far' : Nat) (sil' : Int32) (L' : List (Nat × Nat)) (kp' lk' : Nat → Int32), far' = max far w → L' = xl_ap b L p → t' + xl_pot kp' ac 68 ≤ t + xl_pot kp ac 68 + k → xl_M tk nx ln c N kp' lk' → xl_sb sil sil' → xm_GG post f_pendingCount f_length f_treeNodes f_emitted f_listing a_pending a_text a_operation a_operand a_opens a_stage a_hole a_treeRule a_treeStart a_treeEnd a_treeDepth t' S c2 j far' sil' dep L' kp' lk' ac) → xm_GG post f_pendingCount f_length f_treeNodes f_emitted f_listing a_pending a_text a_operation a_operand a_opens a_stage a_hole a_treeRule a_treeStart a_treeEnd a_treeDepth t S c1 i far sil dep L kp lk ac)
/-- the rounds of a repetition -/
def xl_LG (post : SX → Prop) (f_pendingCount f_length f_treeNodes f_emitted f_listing : Int32) (a_pending a_text a_operation a_operand a_opens a_stage a_hole a_treeRule a_treeStart a_treeEnd a_treeDepth : Nat → Int32) (tk nx ln c : Nat → Nat) (N ρ : Nat) : Prop := ∀ (e i j w k : Nat) (p : List (Nat × Nat)) (m c1 x en t : Nat) (S : List xm_Fr) (far : Nat) (sil sil0 sb : Int32) (dep : Nat) (L : List (Nat × Nat)) (kp lk ac : Nat → Int32) (b : Bool),
  pg_C nx ln e → (tk e = 12 ∨ tk e = 13) → xl_Lay tk nx a_operation a_operand m (e + 1) c1 x → ((a_operation x = 7 ∧ en = x + 1) ∨ (a_operation x = 12 ∧ en = x + 2)) → a_operand x = nI c1 → en < 160 → (pg_ev tk nx ln c ρ).2 e i = (j + 2, w, k, p) → i ≤ N → i ≤ far → far ≤ 17 → xl_H tk nx ln c N (ρ - 1) ac → xl_M tk nx ln c N kp lk → dep = xl_cnt ac 68 → 1 ≤ dep → 1 ≤ S.length → S.length + (nx e - e) ≤ 12 * dep + 1 → t + xl_pot kp ac 68 + k < 4000000 → L.length ≤ 30 → xl_b f_listing dep sil0 (nx e - e) b → xl_sb sil0 sil → xl_sb sil0 sb →
  (∀ (t' far' : Nat) (sil' : Int32) (L' : List (Nat × Nat)) (kp' lk' : Nat → Int32), far' = max far w → L' = xl_ap b L p → t' + xl_pot kp' ac 68 ≤ t + xl_pot kp ac 68 + k → xl_M tk nx ln c N kp' lk' → xl_sb sil0 sil' → xm_GG post f_pendingCount f_length f_treeNodes f_emitted f_listing a_pending a_text a_operation a_operand a_opens a_stage a_hole a_treeRule a_treeStart a_treeEnd a_treeDepth t' S en j far' sil' dep L' kp' lk' ac) → xm_GG post f_pendingCount f_length f_treeNodes f_emitted f_listing a_pending a_text a_operation a_operand a_opens a_stage a_hole a_treeRule a_treeStart a_treeEnd a_treeDepth t ((en, i, L.length, sb) :: S) c1 i far sil dep L kp lk ac
section
variable {post : SX → Prop} {f_pendingCount f_length f_treeNodes f_emitted f_listing : Int32} {a_pending a_text a_operation a_operand a_opens a_stage a_hole a_treeRule a_treeStart a_treeEnd a_treeDepth : Nat → Int32}
variable {tk nx ln c : Nat → Nat} {N ρ : Nat}
theorem xl_bd (hX : xl_X f_length a_text a_operation a_operand tk nx ln c N) {e i o w k : Nat} {p : List (Nat × Nat)} (he : pg_C nx ln e) (hev : (pg_ev tk nx ln c ρ).1 e i = (o, w, k, p)) (hi : i ≤ N) (ho : o ≠ 0) : i ≤ w ∧ w ≤ N + 1 ∧ (∀ j, o = j + 2 → i ≤ j ∧ j ≤ w ∧ j ≤ N) := by
  have := (pg_bd hX.1 hX.2.2.2.1 ρ e i he hi).1
  rw [hev] at this
  have := this ho
  simp only at this
  exact ⟨this.1, this.2.1, fun j hj => by have := this.2.2 (by omega); omega⟩
theorem xl_cap {a b : List (Nat × Nat)} (h : a <+: b) : b.take a.length = a := (List.prefix_iff_eq_take.mp h).symm
theorem xl_la_2 (hX : xl_X f_length a_text a_operation a_operand tk nx ln c N) : ∀ (e i o w k : Nat) (p : List (Nat × Nat)) (m c1 c2 t : Nat) (S : List xm_Fr) (far : Nat) (sil : Int32) (dep : Nat) (L : List (Nat × Nat)) (kp lk ac : Nat → Int32) (b : Bool), tk e = 2 → pg_C nx ln e → xl_Lay tk nx a_operation a_operand m e c1 c2 → c2 < 160 → (pg_ev tk nx ln c ρ).1 e i = (o, w, k, p) → i ≤ N → i ≤ far → far ≤ 17 → xl_H tk nx ln c N (ρ - 1) ac → xl_M tk nx ln c N kp lk → dep = xl_cnt ac 68 → 1 ≤ dep → 1 ≤ S.length → S.length + (nx e - e) ≤ 12 * dep + 1 → t + xl_pot kp ac 68 + k < 4000000 → L.length ≤ 30 → xl_b f_listing dep sil (nx e - e) b → ρ ≠ 0 → (o = 1 → (∀ (t' far' : Nat) (L' : List (Nat × Nat)) (kp' lk' : Nat → Int32), far' = max far w → t' + 1 + xl_pot kp' ac 68 ≤ t + xl_pot kp ac 68 + k → xl_M tk nx ln c N kp' lk' → L <+: L' → xm_FF post f_pendingCount f_length f_treeNodes f_emitted f_listing a_pending a_text a_operation a_operand a_opens a_stage a_hole a_treeRule a_treeStart a_treeEnd a_treeDepth t' S far' dep L' kp' lk' ac) → xm_GG post f_pendingCount f_length f_treeNodes f_emitted f_listing a_pending a_text a_operation a_operand a_opens a_stage a_hole a_treeRule a_treeStart a_treeEnd a_treeDepth t S c1 i far sil dep L kp lk ac) ∧ (∀ j, o = j + 2 → (∀ (t' far' : Nat) (sil' : Int32) (L' : List (Nat × Nat)) (kp' lk' : Nat → Int32), far' = max far w → L' = xl_ap b L p → t' + xl_pot kp' ac 68 ≤ t + xl_pot kp ac 68 + k → xl_M tk nx ln c N kp' lk' → xl_sb sil sil' → xm_GG post f_pendingCount f_length f_treeNodes f_emitted f_listing a_pending a_text a_operation a_operand a_opens a_stage a_hole a_treeRule a_treeStart a_treeEnd a_treeDepth t' S c2 j far' sil' dep L' kp' lk' ac) → xm_GG post f_pendingCount f_length f_treeNodes f_emitted f_listing a_pending a_text a_operation a_operand a_opens a_stage a_hole a_treeRule a_treeStart a_treeEnd a_treeDepth t S c1 i far sil dep L kp lk ac) := by
  intro e i o w k p m c1 c2 t S far sil dep L kp lk ac b tt he hl h160 hev hi hif hfar hH hM hdep hd1 hS1 hS ht hL hb hρ
  obtain ⟨ρ, rfl⟩ : ∃ q, ρ = q + 1 := ⟨ρ - 1, by omega⟩
  have hev' : pg_D tk nx ln c (pg_ev tk nx ln c ρ).1 (pg_ev tk nx ln c ρ).2 e i = (o, w, k, p) := hev
  rw [pg_D_2 tt] at hev'
  simp only [Prod.mk.injEq] at hev'
  obtain ⟨rfl, rfl, rfl, rfl⟩ := hev'
  cases m with
  | zero => exact hl.elim
  | succ m =>
    rw [xl_2 tt] at hl
    subst hl
    refine ⟨fun h => absurd h (by omega), fun j hj K => ?_⟩
    obtain rfl : i = j := by omega
    exact K t far sil L kp lk (by omega) (xl_ap_n hL).symm (by omega) hM xl_sb_r
theorem xl_la_l (hX : xl_X f_length a_text a_operation a_operand tk nx ln c N) : ∀ (e i o w k : Nat) (p : List (Nat × Nat)) (m c1 c2 t : Nat) (S : List xm_Fr) (far : Nat) (sil : Int32) (dep : Nat) (L : List (Nat × Nat)) (kp lk ac : Nat → Int32) (b : Bool), (tk e = 1 ∨ tk e = 3 ∨ 24 ≤ tk e) → pg_C nx ln e → xl_Lay tk nx a_operation a_operand m e c1 c2 → c2 < 160 → (pg_ev tk nx ln c ρ).1 e i = (o, w, k, p) → i ≤ N → i ≤ far → far ≤ 17 → xl_H tk nx ln c N (ρ - 1) ac → xl_M tk nx ln c N kp lk → dep = xl_cnt ac 68 → 1 ≤ dep → 1 ≤ S.length → S.length + (nx e - e) ≤ 12 * dep + 1 → t + xl_pot kp ac 68 + k < 4000000 → L.length ≤ 30 → xl_b f_listing dep sil (nx e - e) b → ρ ≠ 0 → (o = 1 → (∀ (t' far' : Nat) (L' : List (Nat × Nat)) (kp' lk' : Nat → Int32), far' = max far w → t' + 1 + xl_pot kp' ac 68 ≤ t + xl_pot kp ac 68 + k → xl_M tk nx ln c N kp' lk' → L <+: L' → xm_FF post f_pendingCount f_length f_treeNodes f_emitted f_listing a_pending a_text a_operation a_operand a_opens a_stage a_hole a_treeRule a_treeStart a_treeEnd a_treeDepth t' S far' dep L' kp' lk' ac) → xm_GG post f_pendingCount f_length f_treeNodes f_emitted f_listing a_pending a_text a_operation a_operand a_opens a_stage a_hole a_treeRule a_treeStart a_treeEnd a_treeDepth t S c1 i far sil dep L kp lk ac) ∧ (∀ j, o = j + 2 → (∀ (t' far' : Nat) (sil' : Int32) (L' : List (Nat × Nat)) (kp' lk' : Nat → Int32), far' = max far w → L' = xl_ap b L p → t' + xl_pot kp' ac 68 ≤ t + xl_pot kp ac 68 + k → xl_M tk nx ln c N kp' lk' → xl_sb sil sil' → xm_GG post f_pendingCount f_length f_treeNodes f_emitted f_listing a_pending a_text a_operation a_operand a_opens a_stage a_hole a_treeRule a_treeStart a_treeEnd a_treeDepth t' S c2 j far' sil' dep L' kp' lk' ac) → xm_GG post f_pendingCount f_length f_treeNodes f_emitted f_listing a_pending a_text a_operation a_operand a_opens a_stage a_hole a_treeRule a_treeStart a_treeEnd a_treeDepth t S c1 i far sil dep L kp lk ac) := by
  intro e i o w k p m c1 c2 t S far sil dep L kp lk ac b tt he hl h160 hev hi hif hfar hH hM hdep hd1 hS1 hS ht hL hb hρ
  obtain ⟨ρ, rfl⟩ : ∃ q, ρ = q + 1 := ⟨ρ - 1, by omega⟩
  have hev' : pg_D tk nx ln c (pg_ev tk nx ln c ρ).1 (pg_ev tk nx ln c ρ).2 e i = (o, w, k, p) := hev
  rw [pg_D_l tt] at hev'
  cases m with
  | zero => exact hl.elim
  | succ m =>
    obtain ⟨hlf, rfl⟩ := (xl_l tt).mp hl
    obtain ⟨lo, hi', h1, h2, h3, h4⟩ := xl_lt hX.1 he hX.2.2.2.1 (fun j hj => (hX.2.2.2.2.1 j hj).2) tt hlf
    have hc : ∀ j, j < N → a_text j = nI (c j) ∧ c j < 128 := fun j hj => ⟨(hX.2.2.2.2.1 j hj).1, by have := (hX.2.2.2.2.1 j hj).2; omega⟩
    unfold pg_le at hev'
    by_cases g : pg_gd tk (c i) e = true
    · rw [if_pos g] at hev'
      simp only [Prod.mk.injEq] at hev'
      obtain ⟨rfl, rfl, rfl, rfl⟩ := hev'
      refine ⟨fun h => absurd h (by omega), fun j hj K => ?_⟩
      obtain rfl : j = i + 1 := by omega
      exact xr_let (by omega) (by omega) hX.2.2.1 hX.2.1 hi hfar h1 h2 hc h3 (fun y => absurd ((h4 i).mpr g) y) (fun _ => K (t + 1) _ sil L kp lk rfl (xl_ap_n hL).symm (by omega) hM xl_sb_r)
    · rw [if_neg g] at hev'
      simp only [Prod.mk.injEq] at hev'
      obtain ⟨rfl, rfl, rfl, rfl⟩ := hev'
      refine ⟨fun _ K => ?_, fun j hj => absurd hj (by omega)⟩
      exact xr_let (by omega) (by omega) hX.2.2.1 hX.2.1 hi hfar h1 h2 hc h3 (fun _ => K t _ L kp lk rfl (by omega) hM (List.prefix_refl L)) (fun y => absurd ((h4 i).mp y) g)
theorem xl_la_10 (hX : xl_X f_length a_text a_operation a_operand tk nx ln c N) (ih : xl_LA post f_pendingCount f_length f_treeNodes f_emitted f_listing a_pending a_text a_operation a_operand a_opens a_stage a_hole a_treeRule a_treeStart a_treeEnd a_treeDepth tk nx ln c N ρ) : ∀ (e i o w k : Nat) (p : List (Nat × Nat)) (m c1 c2 t : Nat) (S : List xm_Fr) (far : Nat) (sil : Int32) (dep : Nat) (L : List (Nat × Nat)) (kp lk ac : Nat → Int32) (b : Bool), tk e = 10 → pg_C nx ln e → xl_Lay tk nx a_operation a_operand m e c1 c2 → c2 < 160 → (pg_ev tk nx ln c (ρ + 1)).1 e i = (o, w, k, p) → i ≤ N → i ≤ far → far ≤ 17 → xl_H tk nx ln c N ρ ac → xl_M tk nx ln c N kp lk → dep = xl_cnt ac 68 → 1 ≤ dep → 1 ≤ S.length → S.length + (nx e - e) ≤ 12 * dep + 1 → t + xl_pot kp ac 68 + k < 4000000 → L.length ≤ 30 → xl_b f_listing dep sil (nx e - e) b → (o = 1 → (∀ (t' far' : Nat) (L' : List (Nat × Nat)) (kp' lk' : Nat → Int32), far' = max far w → t' + 1 + xl_pot kp' ac 68 ≤ t + xl_pot kp ac 68 + k → xl_M tk nx ln c N kp' lk' → L <+: L' → xm_FF post f_pendingCount f_length f_treeNodes f_emitted f_listing a_pending a_text a_operation a_operand a_opens a_stage a_hole a_treeRule a_treeStart a_treeEnd a_treeDepth t' S far' dep L' kp' lk' ac) → xm_GG post f_pendingCount f_length f_treeNodes f_emitted f_listing a_pending a_text a_operation a_operand a_opens a_stage a_hole a_treeRule a_treeStart a_treeEnd a_treeDepth t S c1 i far sil dep L kp lk ac) ∧ (∀ j, o = j + 2 → (∀ (t' far' : Nat) (sil' : Int32) (L' : List (Nat × Nat)) (kp' lk' : Nat → Int32), far' = max far w → L' = xl_ap b L p → t' + xl_pot kp' ac 68 ≤ t + xl_pot kp ac 68 + k → xl_M tk nx ln c N kp' lk' → xl_sb sil sil' → xm_GG post f_pendingCount f_length f_treeNodes f_emitted f_listing a_pending a_text a_operation a_operand a_opens a_stage a_hole a_treeRule a_treeStart a_treeEnd a_treeDepth t' S c2 j far' sil' dep L' kp' lk' ac) → xm_GG post f_pendingCount f_length f_treeNodes f_emitted f_listing a_pending a_text a_operation a_operand a_opens a_stage a_hole a_treeRule a_treeStart a_treeEnd a_treeDepth t S c1 i far sil dep L kp lk ac) := by
  intro e i o w k p m c1 c2 t S far sil dep L kp lk ac b tt he hl h160 hev hi hif hfar hH hM hdep hd1 hS1 hS ht hL hb
  have hev' : pg_D tk nx ln c (pg_ev tk nx ln c ρ).1 (pg_ev tk nx ln c ρ).2 e i = (o, w, k, p) := hev
  rw [pg_D_10 tt] at hev'
  obtain ⟨s1, s2, s3, s4, s5⟩ := pg_C_b hX.1 he (Or.inl tt)
  have hH' := xl_H_le hH (Nat.sub_le ρ 1)
  have hN16 := hX.2.1
  cases m with
  | zero => exact hl.elim
  | succ m =>
    obtain ⟨x, l1, l2⟩ := (xl_10 tt).mp hl
    have z1 := xl_sz hX.1 _ _ _ _ s1 l1
    have z2 := xl_sz hX.1 _ _ _ _ s2 l2
    rcases ha : (pg_ev tk nx ln c ρ).1 (e + 1) i with ⟨_ | _ | j1, wa, ka, pa⟩
    · rw [ha] at hev'
      simp only [pg_sq, pg_B, Prod.mk.injEq] at hev'
      exact ⟨fun h => absurd h (by omega), fun j h => absurd h (by omega)⟩
    · rw [ha] at hev'
      simp only [pg_sq, Prod.mk.injEq] at hev'
      obtain ⟨rfl, rfl, rfl, rfl⟩ := hev'
      refine ⟨fun _ K => ?_, fun j h => absurd h (by omega)⟩
      exact (ih (e + 1) i 1 wa ka pa m c1 x t S far sil dep L kp lk ac b s1 l1 (by omega) ha hi hif hfar hH' hM hdep hd1 hS1 (by omega) ht hL (xl_b_m hb (by omega))).1 rfl K
    · have ba := xl_bd hX s1 ha hi (by omega)
      have ba' := ba.2.2 j1 rfl
      rcases hbb : (pg_ev tk nx ln c ρ).1 (nx (e + 1)) j1 with ⟨ob, wb, kb, pb⟩
      have e1 : pg_sq (j1 + 1 + 1, wa, ka, pa) (fun j => (pg_ev tk nx ln c ρ).1 (nx (e + 1)) j) = (ob, max wa wb, ka + kb, pa ++ pb) := by
        show (((pg_ev tk nx ln c ρ).1 (nx (e + 1)) j1).1, max wa ((pg_ev tk nx ln c ρ).1 (nx (e + 1)) j1).2.1, ka + ((pg_ev tk nx ln c ρ).1 (nx (e + 1)) j1).2.2.1, pa ++ ((pg_ev tk nx ln c ρ).1 (nx (e + 1)) j1).2.2.2) = _
        rw [hbb]
      rw [ha, e1] at hev'
      simp only [Prod.mk.injEq] at hev'
      obtain ⟨rfl, rfl, rfl, rfl⟩ := hev'
      have first := (ih (e + 1) i (j1 + 2) wa ka pa m c1 x t S far sil dep L kp lk ac b s1 l1 (by omega) ha hi hif hfar hH' hM hdep hd1 hS1 (by omega) (by omega) hL (xl_b_m hb (by omega))).2 j1 rfl
      have second := fun (t1 far1 : Nat) (sil1 : Int32) (kp1 lk1 : Nat → Int32) (hf1 : far1 = max far wa) (ht1 : t1 + xl_pot kp1 ac 68 ≤ t + xl_pot kp ac 68 + ka) (hM1 : xl_M tk nx ln c N kp1 lk1) (hs1 : xl_sb sil sil1) =>
        ih (nx (e + 1)) j1 ob wb kb pb m x c2 t1 S far1 sil1 dep (xl_ap b L pa) kp1 lk1 ac b s2 l2 h160 hbb (by omega) (by omega) (by omega) hH' hM1 hdep hd1 hS1 (by omega) (by omega) (xl_ap_l hL).1 (xl_b_m (xl_b_s hb hs1) (by omega))
      refine ⟨fun ho K => first (fun t1 far1 sil1 L1 kp1 lk1 hf1 hL1 ht1 hM1 hs1 => ?_), fun j ho K => first (fun t1 far1 sil1 L1 kp1 lk1 hf1 hL1 ht1 hM1 hs1 => ?_)⟩
      · subst hL1
        exact (second t1 far1 sil1 kp1 lk1 hf1 ht1 hM1 hs1).1 ho (fun t' far' L' kp' lk' hf' ht' hM' hp => K t' far' L' kp' lk' (by omega) (by omega) hM' ((xl_ap_l hL).2.trans hp))
      · subst hL1
        exact (second t1 far1 sil1 kp1 lk1 hf1 ht1 hM1 hs1).2 j ho (fun t' far' sil' L' kp' lk' hf' hL' ht' hM' hs' => K t' far' sil' L' kp' lk' (by omega) (hL'.trans xl_ap_a) (by omega) hM' (xl_sb_t hs1 hs'))
end
end
section
/-! the cases: choice, option, look-ahead, repetition, call -/
section
variable {post : SX → Prop} {f_pendingCount f_length f_treeNodes f_emitted f_listing : Int32} {a_pending a_text a_operation a_operand a_opens a_stage a_hole a_treeRule a_treeStart a_treeEnd a_treeDepth : Nat → Int32}
variable {tk nx ln c : Nat → Nat} {N ρ : Nat}
theorem xl_la_11 (hX : xl_X f_length a_text a_operation a_operand tk nx ln c N) (ih : xl_LA post f_pendingCount f_length f_treeNodes f_emitted f_listing a_pending a_text a_operation a_operand a_opens a_stage a_hole a_treeRule a_treeStart a_treeEnd a_treeDepth tk nx ln c N ρ) : ∀ (e i o w k : Nat) (p : List (Nat × Nat)) (m c1 c2 t : Nat) (S : List xm_Fr) (far : Nat) (sil : Int32) (dep : Nat) (L : List (Nat × Nat)) (kp lk ac : Nat → Int32) (b : Bool), tk e = 11 → pg_C nx ln e → xl_Lay tk nx a_operation a_operand m e c1 c2 → c2 < 160 → (pg_ev tk nx ln c (ρ + 1)).1 e i = (o, w, k, p) → i ≤ N → i ≤ far → far ≤ 17 → xl_H tk nx ln c N ρ ac → xl_M tk nx ln c N kp lk → dep = xl_cnt ac 68 → 1 ≤ dep → 1 ≤ S.length → S.length + (nx e - e) ≤ 12 * dep + 1 → t + xl_pot kp ac 68 + k < 4000000 → L.length ≤ 30 → xl_b f_listing dep sil (nx e - e) b → (o = 1 → (∀ (t' far' : Nat) (L' : List (Nat × Nat)) (kp' lk' : Nat → Int32), far' = max far w → t' + 1 + xl_pot kp' ac 68 ≤ t + xl_pot kp ac 68 + k → xl_M tk nx ln c N kp' lk' → L <+: L' → xm_FF post f_pendingCount f_length f_treeNodes f_emitted f_listing a_pending a_text a_operation a_operand a_opens a_stage a_hole a_treeRule a_treeStart a_treeEnd a_treeDepth t' S far' dep L' kp' lk' ac) → xm_GG post f_pendingCount f_length f_treeNodes f_emitted f_listing a_pending a_text a_operation a_operand a_opens a_stage a_hole a_treeRule a_treeStart a_treeEnd a_treeDepth t S c1 i far sil dep L kp lk ac) ∧ (∀ j, o = j + 2 → (∀ (t' far' : Nat) (sil' : Int32) (L' : List (Nat × Nat)) (kp' lk' : Nat → Int32), far' = max far w → L' = xl_ap b L p → t' + xl_pot kp' ac 68 ≤ t + xl_pot kp ac 68 + k → xl_M tk nx ln c N kp' lk' → xl_sb sil sil' → xm_GG post f_pendingCount f_length f_treeNodes f_emitted f_listing a_pending a_text a_operation a_operand a_opens a_stage a_hole a_treeRule a_treeStart a_treeEnd a_treeDepth t' S c2 j far' sil' dep L' kp' lk' ac) → xm_GG post f_pendingCount f_length f_treeNodes f_emitted f_listing a_pending a_text a_operation a_operand a_opens a_stage a_hole a_treeRule a_treeStart a_treeEnd a_treeDepth t S c1 i far sil dep L kp lk ac) := by
  intro e i o w k p m c1 c2 t S far sil dep L kp lk ac b tt he hl h160 hev hi hif hfar hH hM hdep hd1 hS1 hS ht hL hb
  have hev' : pg_D tk nx ln c (pg_ev tk nx ln c ρ).1 (pg_ev tk nx ln c ρ).2 e i = (o, w, k, p) := hev
  rw [pg_D_11 tt] at hev'
  obtain ⟨s1, s2, s3, s4, s5⟩ := pg_C_b hX.1 he (Or.inr tt)
  have hH' := xl_H_le hH (Nat.sub_le ρ 1)
  have hN16 := hX.2.1
  have h68 := xl_cnt_le ac 68
  cases m with
  | zero => exact hl.elim
  | succ m =>
    obtain ⟨x, g1, g2, l1, g3, g4, l2⟩ := (xl_11 tt).mp hl
    have z1 := xl_sz hX.1 _ _ _ _ s1 l1
    have z2 := xl_sz hX.1 _ _ _ _ s2 l2
    rcases ha : (pg_ev tk nx ln c ρ).1 (e + 1) i with ⟨_ | _ | j1, wa, ka, pa⟩
    · rw [ha] at hev'
      simp only [pg_ch, pg_B, Prod.mk.injEq] at hev'
      exact ⟨fun h => absurd h (by omega), fun j h => absurd h (by omega)⟩
    · have ba := xl_bd hX s1 ha hi (by omega)
      rcases hbb : (pg_ev tk nx ln c ρ).1 (nx (e + 1)) i with ⟨ob, wb, kb, pb⟩
      rw [ha, hbb] at hev'
      simp only [pg_ch, Prod.mk.injEq] at hev'
      obtain ⟨rfl, rfl, rfl, rfl⟩ := hev'
      have first := (ih (e + 1) i 1 wa ka pa m (c1 + 1) x (t + 1) ((x + 1, i, L.length, sil.toInt8.toInt32) :: S) far sil dep L kp lk ac b s1 l1 (by omega) ha hi hif hfar hH' hM hdep hd1 (Nat.succ_pos _) (by show S.length + 1 + _ ≤ _; omega) (by omega) hL (xl_b_m hb (by omega))).1 rfl
      have second := fun (t1 far1 : Nat) (kp1 lk1 : Nat → Int32) (hf1 : far1 = max far wa) (ht1 : t1 + 1 + xl_pot kp1 ac 68 ≤ t + 1 + xl_pot kp ac 68 + ka) (hM1 : xl_M tk nx ln c N kp1 lk1) =>
        ih (nx (e + 1)) i ob wb kb pb m (x + 1) c2 (t1 + 1) S far1 sil.toInt8.toInt32 dep L kp1 lk1 ac b s2 l2 h160 hbb hi (by omega) (by omega) hH' hM1 hdep hd1 hS1 (by omega) (by omega) hL (xl_b_m (xl_b_s hb xl_sb_b) (by omega))
      refine ⟨fun ho K => xr_5 (by omega) (by omega) g1 g2 (by omega) (by omega) (by omega) (first (fun t1 far1 L1 kp1 lk1 hf1 ht1 hM1 hp1 => ?_)), fun j ho K => xr_5 (by omega) (by omega) g1 g2 (by omega) (by omega) (by omega) (first (fun t1 far1 L1 kp1 lk1 hf1 ht1 hM1 hp1 => ?_))⟩
      · refine xf_a (by omega) (by omega) hp1.length_le ?_
        rw [xl_cap hp1]
        exact (second t1 far1 kp1 lk1 hf1 ht1 hM1).1 ho (fun t' far' L' kp' lk' hf' ht' hM' hp => K t' far' L' kp' lk' (by omega) (by omega) hM' hp)
      · refine xf_a (by omega) (by omega) hp1.length_le ?_
        rw [xl_cap hp1]
        exact (second t1 far1 kp1 lk1 hf1 ht1 hM1).2 j ho (fun t' far' sil' L' kp' lk' hf' hL' ht' hM' hs' => K t' far' sil' L' kp' lk' (by omega) hL' (by omega) hM' (xl_sb_t xl_sb_b hs'))
    · have ba := xl_bd hX s1 ha hi (by omega)
      rw [ha] at hev'
      simp only [pg_ch, Prod.mk.injEq] at hev'
      obtain ⟨rfl, rfl, rfl, rfl⟩ := hev'
      refine ⟨fun h => absurd h (by omega), fun j ho K => xr_5 (by omega) (by omega) g1 g2 (by omega) (by omega) (by omega) ?_⟩
      refine (ih (e + 1) i (j1 + 2) wa ka pa m (c1 + 1) x (t + 1) ((x + 1, i, L.length, sil.toInt8.toInt32) :: S) far sil dep L kp lk ac b s1 l1 (by omega) ha hi hif hfar hH' hM hdep hd1 (Nat.succ_pos _) (by show S.length + 1 + _ ≤ _; omega) (by omega) hL (xl_b_m hb (by omega))).2 j ho (fun t1 far1 sil1 L1 kp1 lk1 hf1 hL1 ht1 hM1 hs1 => ?_)
      exact xr_6 (by omega) (by omega) g3 g4 (K (t1 + 1) far1 sil1 L1 kp1 lk1 hf1 hL1 (by omega) hM1 hs1)
theorem xl_la_14 (hX : xl_X f_length a_text a_operation a_operand tk nx ln c N) (ih : xl_LA post f_pendingCount f_length f_treeNodes f_emitted f_listing a_pending a_text a_operation a_operand a_opens a_stage a_hole a_treeRule a_treeStart a_treeEnd a_treeDepth tk nx ln c N ρ) : ∀ (e i o w k : Nat) (p : List (Nat × Nat)) (m c1 c2 t : Nat) (S : List xm_Fr) (far : Nat) (sil : Int32) (dep : Nat) (L : List (Nat × Nat)) (kp lk ac : Nat → Int32) (b : Bool), tk e = 14 → pg_C nx ln e → xl_Lay tk nx a_operation a_operand m e c1 c2 → c2 < 160 → (pg_ev tk nx ln c (ρ + 1)).1 e i = (o, w, k, p) → i ≤ N → i ≤ far → far ≤ 17 → xl_H tk nx ln c N ρ ac → xl_M tk nx ln c N kp lk → dep = xl_cnt ac 68 → 1 ≤ dep → 1 ≤ S.length → S.length + (nx e - e) ≤ 12 * dep + 1 → t + xl_pot kp ac 68 + k < 4000000 → L.length ≤ 30 → xl_b f_listing dep sil (nx e - e) b → (o = 1 → (∀ (t' far' : Nat) (L' : List (Nat × Nat)) (kp' lk' : Nat → Int32), far' = max far w → t' + 1 + xl_pot kp' ac 68 ≤ t + xl_pot kp ac 68 + k → xl_M tk nx ln c N kp' lk' → L <+: L' → xm_FF post f_pendingCount f_length f_treeNodes f_emitted f_listing a_pending a_text a_operation a_operand a_opens a_stage a_hole a_treeRule a_treeStart a_treeEnd a_treeDepth t' S far' dep L' kp' lk' ac) → xm_GG post f_pendingCount f_length f_treeNodes f_emitted f_listing a_pending a_text a_operation a_operand a_opens a_stage a_hole a_treeRule a_treeStart a_treeEnd a_treeDepth t S c1 i far sil dep L kp lk ac) ∧ (∀ j, o = j + 2 → (∀ (t' far' : Nat) (sil' : Int32) (L' : List (Nat × Nat)) (kp' lk' : Nat → Int32), far' = max far w → L' = xl_ap b L p → t' + xl_pot kp' ac 68 ≤ t + xl_pot kp ac 68 + k → xl_M tk nx ln c N kp' lk' → xl_sb sil sil' → xm_GG post f_pendingCount f_length f_treeNodes f_emitted f_listing a_pending a_text a_operation a_operand a_opens a_stage a_hole a_treeRule a_treeStart a_treeEnd a_treeDepth t' S c2 j far' sil' dep L' kp' lk' ac) → xm_GG post f_pendingCount f_length f_treeNodes f_emitted f_listing a_pending a_text a_operation a_operand a_opens a_stage a_hole a_treeRule a_treeStart a_treeEnd a_treeDepth t S c1 i far sil dep L kp lk ac) := by
  intro e i o w k p m c1 c2 t S far sil dep L kp lk ac b tt he hl h160 hev hi hif hfar hH hM hdep hd1 hS1 hS ht hL hb
  have hev' : pg_D tk nx ln c (pg_ev tk nx ln c ρ).1 (pg_ev tk nx ln c ρ).2 e i = (o, w, k, p) := hev
  rw [pg_D_14 tt] at hev'
  obtain ⟨s1, s2, s3⟩ := pg_C_u hX.1 he (by omega)
  have hH' := xl_H_le hH (Nat.sub_le ρ 1)
  have hN16 := hX.2.1
  have h68 := xl_cnt_le ac 68
  cases m with
  | zero => exact hl.elim
  | succ m =>
    obtain ⟨x, g1, g2, l1, g3, g4, rfl⟩ := (xl_14 tt).mp hl
    have z1 := xl_sz hX.1 _ _ _ _ s1 l1
    rcases ha : (pg_ev tk nx ln c ρ).1 (e + 1) i with ⟨_ | _ | j1, wa, ka, pa⟩
    · rw [ha] at hev'
      simp only [pg_op, pg_B, Prod.mk.injEq] at hev'
      exact ⟨fun h => absurd h (by omega), fun j h => absurd h (by omega)⟩
    · have ba := xl_bd hX s1 ha hi (by omega)
      rw [ha] at hev'
      simp only [pg_op, Prod.mk.injEq] at hev'
      obtain ⟨rfl, rfl, rfl, rfl⟩ := hev'
      refine ⟨fun h => absurd h (by omega), fun j ho K => xr_5 (by omega) (by omega) g1 g2 (by omega) (by omega) (by omega) ?_⟩
      obtain rfl : i = j := by omega
      refine (ih (e + 1) i 1 wa ka pa m (c1 + 1) x (t + 1) ((x + 1, i, L.length, sil.toInt8.toInt32) :: S) far sil dep L kp lk ac b s1 l1 (by omega) ha hi hif hfar hH' hM hdep hd1 (Nat.succ_pos _) (by show S.length + 1 + _ ≤ _; omega) (by omega) hL (xl_b_m hb (by omega))).1 rfl (fun t1 far1 L1 kp1 lk1 hf1 ht1 hM1 hp1 => ?_)
      refine xf_a (by omega) (by omega) hp1.length_le ?_
      rw [xl_cap hp1]
      exact K (t1 + 1) far1 _ L kp1 lk1 hf1 (xl_ap_n hL).symm (by omega) hM1 xl_sb_b
    · have ba := xl_bd hX s1 ha hi (by omega)
      rw [ha] at hev'
      simp only [pg_op, Prod.mk.injEq] at hev'
      obtain ⟨rfl, rfl, rfl, rfl⟩ := hev'
      refine ⟨fun h => absurd h (by omega), fun j ho K => xr_5 (by omega) (by omega) g1 g2 (by omega) (by omega) (by omega) ?_⟩
      refine (ih (e + 1) i (j1 + 2) wa ka pa m (c1 + 1) x (t + 1) ((x + 1, i, L.length, sil.toInt8.toInt32) :: S) far sil dep L kp lk ac b s1 l1 (by omega) ha hi hif hfar hH' hM hdep hd1 (Nat.succ_pos _) (by show S.length + 1 + _ ≤ _; omega) (by omega) hL (xl_b_m hb (by omega))).2 j ho (fun t1 far1 sil1 L1 kp1 lk1 hf1 hL1 ht1 hM1 hs1 => ?_)
      exact xr_6 (by omega) (by omega) g3 g4 (K (t1 + 1) far1 sil1 L1 kp1 lk1 hf1 hL1 (by omega) hM1 hs1)
theorem xl_la_15 (hX : xl_X f_length a_text a_operation a_operand tk nx ln c N) (ih : xl_LA post f_pendingCount f_length f_treeNodes f_emitted f_listing a_pending a_text a_operation a_operand a_opens a_stage a_hole a_treeRule a_treeStart a_treeEnd a_treeDepth tk nx ln c N ρ) : ∀ (e i o w k : Nat) (p : List (Nat × Nat)) (m c1 c2 t : Nat) (S : List xm_Fr) (far : Nat) (sil : Int32) (dep : Nat) (L : List (Nat × Nat)) (kp lk ac : Nat → Int32) (b : Bool), tk e = 15 → pg_C nx ln e → xl_Lay tk nx a_operation a_operand m e c1 c2 → c2 < 160 → (pg_ev tk nx ln c (ρ + 1)).1 e i = (o, w, k, p) → i ≤ N → i ≤ far → far ≤ 17 → xl_H tk nx ln c N ρ ac → xl_M tk nx ln c N kp lk → dep = xl_cnt ac 68 → 1 ≤ dep → 1 ≤ S.length → S.length + (nx e - e) ≤ 12 * dep + 1 → t + xl_pot kp ac 68 + k < 4000000 → L.length ≤ 30 → xl_b f_listing dep sil (nx e - e) b → (o = 1 → (∀ (t' far' : Nat) (L' : List (Nat × Nat)) (kp' lk' : Nat → Int32), far' = max far w → t' + 1 + xl_pot kp' ac 68 ≤ t + xl_pot kp ac 68 + k → xl_M tk nx ln c N kp' lk' → L <+: L' → xm_FF post f_pendingCount f_length f_treeNodes f_emitted f_listing a_pending a_text a_operation a_operand a_opens a_stage a_hole a_treeRule a_treeStart a_treeEnd a_treeDepth t' S far' dep L' kp' lk' ac) → xm_GG post f_pendingCount f_length f_treeNodes f_emitted f_listing a_pending a_text a_operation a_operand a_opens a_stage a_hole a_treeRule a_treeStart a_treeEnd a_treeDepth t S c1 i far sil dep L kp lk ac) ∧ (∀ j, o = j + 2 → (∀ (t' far' : Nat) (sil' : Int32) (L' : List (Nat × Nat)) (kp' lk' : Nat → Int32), far' = max far w → L' = xl_ap b L p → t' + xl_pot kp' ac 68 ≤ t + xl_pot kp ac 68 + k → xl_M tk nx ln c N kp' lk' → xl_sb sil sil' → xm_GG post f_pendingCount f_length f_treeNodes f_emitted f_listing a_pending a_text a_operation a_operand a_opens a_stage a_hole a_treeRule a_treeStart a_treeEnd a_treeDepth t' S c2 j far' sil' dep L' kp' lk' ac) → xm_GG post f_pendingCount f_length f_treeNodes f_emitted f_listing a_pending a_text a_operation a_operand a_opens a_stage a_hole a_treeRule a_treeStart a_treeEnd a_treeDepth t S c1 i far sil dep L kp lk ac) := by
  intro e i o w k p m c1 c2 t S far sil dep L kp lk ac b tt he hl h160 hev hi hif hfar hH hM hdep hd1 hS1 hS ht hL hb
  have hev' : pg_D tk nx ln c (pg_ev tk nx ln c ρ).1 (pg_ev tk nx ln c ρ).2 e i = (o, w, k, p) := hev
  rw [pg_D_15 tt] at hev'
  obtain ⟨s1, s2, s3⟩ := pg_C_u hX.1 he (by omega)
  have hs48 := pg_C_s hX.1 he
  have hH' := xl_H_le hH (Nat.sub_le ρ 1)
  have hN16 := hX.2.1
  have h68 := xl_cnt_le ac 68
  have hbq : xl_b f_listing dep (sil + 1) (nx (e + 1) - (e + 1)) false := xl_b_u (xl_b_m hb (by omega)) (by omega)
  cases m with
  | zero => exact hl.elim
  | succ m =>
    obtain ⟨x, g1, g2, l1, g3, g4, g5, rfl⟩ := (xl_15 tt).mp hl
    have z1 := xl_sz hX.1 _ _ _ _ s1 l1
    rcases ha : (pg_ev tk nx ln c ρ).1 (e + 1) i with ⟨_ | _ | j1, wa, ka, pa⟩
    · rw [ha] at hev'
      simp only [pg_an, pg_B, Prod.mk.injEq] at hev'
      exact ⟨fun h => absurd h (by omega), fun j h => absurd h (by omega)⟩
    · have ba := xl_bd hX s1 ha hi (by omega)
      rw [ha] at hev'
      simp only [pg_an, Prod.mk.injEq] at hev'
      obtain ⟨rfl, rfl, rfl, rfl⟩ := hev'
      refine ⟨fun ho K => xr_8 (by omega) (by omega) g1 g2 (by omega) (by omega) (by omega) ?_, fun j h => absurd h (by omega)⟩
      refine (ih (e + 1) i 1 wa ka pa m (c1 + 1) x (t + 1) ((x + 1, i, L.length, sil.toInt8.toInt32) :: S) far (sil + 1) dep L kp lk ac false s1 l1 (by omega) ha hi hif hfar hH' hM hdep hd1 (Nat.succ_pos _) (by show S.length + 1 + _ ≤ _; omega) (by omega) hL hbq).1 rfl (fun t1 far1 L1 kp1 lk1 hf1 ht1 hM1 hp1 => ?_)
      refine xf_a (by omega) (by omega) hp1.length_le ?_
      rw [xl_cap hp1]
      exact xr_11 (by omega) (by omega) g5 (K (t1 + 1) far1 L kp1 lk1 hf1 (by omega) hM1 (List.prefix_refl L))
    · have ba := xl_bd hX s1 ha hi (by omega)
      rw [ha] at hev'
      simp only [pg_an, Prod.mk.injEq] at hev'
      obtain ⟨rfl, rfl, rfl, rfl⟩ := hev'
      refine ⟨fun h => absurd h (by omega), fun j ho K => xr_8 (by omega) (by omega) g1 g2 (by omega) (by omega) (by omega) ?_⟩
      obtain rfl : i = j := by omega
      refine (ih (e + 1) i (j1 + 2) wa ka pa m (c1 + 1) x (t + 1) ((x + 1, i, L.length, sil.toInt8.toInt32) :: S) far (sil + 1) dep L kp lk ac false s1 l1 (by omega) ha hi hif hfar hH' hM hdep hd1 (Nat.succ_pos _) (by show S.length + 1 + _ ≤ _; omega) (by omega) hL hbq).2 j1 rfl (fun t1 far1 sil1 L1 kp1 lk1 hf1 hL1 ht1 hM1 hs1 => ?_)
      obtain rfl : L1 = L := hL1
      refine xr_9 (by omega) (by omega) g3 g4 (by omega) (Nat.le_refl _) ?_
      rw [List.take_length]
      exact K (t1 + 1) far1 _ _ kp1 lk1 hf1 (xl_ap_n hL).symm (by omega) hM1 xl_sb_b
theorem xl_la_16 (hX : xl_X f_length a_text a_operation a_operand tk nx ln c N) (ih : xl_LA post f_pendingCount f_length f_treeNodes f_emitted f_listing a_pending a_text a_operation a_operand a_opens a_stage a_hole a_treeRule a_treeStart a_treeEnd a_treeDepth tk nx ln c N ρ) : ∀ (e i o w k : Nat) (p : List (Nat × Nat)) (m c1 c2 t : Nat) (S : List xm_Fr) (far : Nat) (sil : Int32) (dep : Nat) (L : List (Nat × Nat)) (kp lk ac : Nat → Int32) (b : Bool), tk e = 16 → pg_C nx ln e → xl_Lay tk nx a_operation a_operand m e c1 c2 → c2 < 160 → (pg_ev tk nx ln c (ρ + 1)).1 e i = (o, w, k, p) → i ≤ N → i ≤ far → far ≤ 17 → xl_H tk nx ln c N ρ ac → xl_M tk nx ln c N kp lk → dep = xl_cnt ac 68 → 1 ≤ dep → 1 ≤ S.length → S.length + (nx e - e) ≤ 12 * dep + 1 → t + xl_pot kp ac 68 + k < 4000000 → L.length ≤ 30 → xl_b f_listing dep sil (nx e - e) b → (o = 1 → (∀ (t' far' : Nat) (L' : List (Nat × Nat)) (kp' lk' : Nat → Int32), far' = max far w → t' + 1 + xl_pot kp' ac 68 ≤ t + xl_pot kp ac 68 + k → xl_M tk nx ln c N kp' lk' → L <+: L' → xm_FF post f_pendingCount f_length f_treeNodes f_emitted f_listing a_pending a_text a_operation a_operand a_opens a_stage a_hole a_treeRule a_treeStart a_treeEnd a_treeDepth t' S far' dep L' kp' lk' ac) → xm_GG post f_pendingCount f_length f_treeNodes f_emitted f_listing a_pending a_text a_operation a_operand a_opens a_stage a_hole a_treeRule a_treeStart a_treeEnd a_treeDepth t S c1 i far sil dep L kp lk ac) ∧ (∀ j, o = j + 2 → (∀ (t' far' : Nat) (sil' : Int32) (L' : List (Nat × Nat)) (kp' lk' : Nat → Int32), far' = max far w → L' = xl_ap b L p → t' + xl_pot kp' ac 68 ≤ t + xl_pot kp ac 68 + k → xl_M tk nx ln c N kp' lk' → xl_sb sil sil' → xm_GG post f_pendingCount f_length f_treeNodes f_emitted f_listing a_pending a_text a_operation a_operand a_opens a_stage a_hole a_treeRule a_treeStart a_treeEnd a_treeDepth t' S c2 j far' sil' dep L' kp' lk' ac) → xm_GG post f_pendingCount f_length f_treeNodes f_emitted f_listing a_pending a_text a_operation a_operand a_opens a_stage a_hole a_treeRule a_treeStart a_treeEnd a_treeDepth t S c1 i far sil dep L kp lk ac) := by
  intro e i o w k p m c1 c2 t S far sil dep L kp lk ac b tt he hl h160 hev hi hif hfar hH hM hdep hd1 hS1 hS ht hL hb
  have hev' : pg_D tk nx ln c (pg_ev tk nx ln c ρ).1 (pg_ev tk nx ln c ρ).2 e i = (o, w, k, p) := hev
  rw [pg_D_16 tt] at hev'
  obtain ⟨s1, s2, s3⟩ := pg_C_u hX.1 he (by omega)
  have hs48 := pg_C_s hX.1 he
  have hH' := xl_H_le hH (Nat.sub_le ρ 1)
  have hN16 := hX.2.1
  have h68 := xl_cnt_le ac 68
  have hbq : xl_b f_listing dep (sil + 1) (nx (e + 1) - (e + 1)) false := xl_b_u (xl_b_m hb (by omega)) (by omega)
  cases m with
  | zero => exact hl.elim
  | succ m =>
    obtain ⟨x, g1, g2, l1, g3, rfl⟩ := (xl_16 tt).mp hl
    have z1 := xl_sz hX.1 _ _ _ _ s1 l1
    rcases ha : (pg_ev tk nx ln c ρ).1 (e + 1) i with ⟨_ | _ | j1, wa, ka, pa⟩
    · rw [ha] at hev'
      simp only [pg_nt, pg_B, Prod.mk.injEq] at hev'
      exact ⟨fun h => absurd h (by omega), fun j h => absurd h (by omega)⟩
    · have ba := xl_bd hX s1 ha hi (by omega)
      rw [ha] at hev'
      simp only [pg_nt, Prod.mk.injEq] at hev'
      obtain ⟨rfl, rfl, rfl, rfl⟩ := hev'
      refine ⟨fun h => absurd h (by omega), fun j ho K => xr_8 (by omega) (by omega) g1 g2 (by omega) (by omega) (by omega) ?_⟩
      obtain rfl : i = j := by omega
      refine (ih (e + 1) i 1 wa ka pa m (c1 + 1) x (t + 1) ((x + 1, i, L.length, sil.toInt8.toInt32) :: S) far (sil + 1) dep L kp lk ac false s1 l1 (by omega) ha hi hif hfar hH' hM hdep hd1 (Nat.succ_pos _) (by show S.length + 1 + _ ≤ _; omega) (by omega) hL hbq).1 rfl (fun t1 far1 L1 kp1 lk1 hf1 ht1 hM1 hp1 => ?_)
      refine xf_a (by omega) (by omega) hp1.length_le ?_
      rw [xl_cap hp1]
      exact K (t1 + 1) far1 _ L kp1 lk1 hf1 (xl_ap_n hL).symm (by omega) hM1 xl_sb_b
    · have ba := xl_bd hX s1 ha hi (by omega)
      rw [ha] at hev'
      simp only [pg_nt, Prod.mk.injEq] at hev'
      obtain ⟨rfl, rfl, rfl, rfl⟩ := hev'
      refine ⟨fun ho K => xr_8 (by omega) (by omega) g1 g2 (by omega) (by omega) (by omega) ?_, fun j h => absurd h (by omega)⟩
      refine (ih (e + 1) i (j1 + 2) wa ka pa m (c1 + 1) x (t + 1) ((x + 1, i, L.length, sil.toInt8.toInt32) :: S) far (sil + 1) dep L kp lk ac false s1 l1 (by omega) ha hi hif hfar hH' hM hdep hd1 (Nat.succ_pos _) (by show S.length + 1 + _ ≤ _; omega) (by omega) hL hbq).2 j1 rfl (fun t1 far1 sil1 L1 kp1 lk1 hf1 hL1 ht1 hM1 hs1 => ?_)
      obtain rfl : L1 = L := hL1
      exact xr_10 (by omega) (by omega) g3 (by omega) (K t1 far1 _ kp1 lk1 hf1 (by omega) hM1 (List.prefix_refl _))
theorem xl_lg_s (hX : xl_X f_length a_text a_operation a_operand tk nx ln c N) (ih : xl_LA post f_pendingCount f_length f_treeNodes f_emitted f_listing a_pending a_text a_operation a_operand a_opens a_stage a_hole a_treeRule a_treeStart a_treeEnd a_treeDepth tk nx ln c N ρ) (ihg : xl_LG post f_pendingCount f_length f_treeNodes f_emitted f_listing a_pending a_text a_operation a_operand a_opens a_stage a_hole a_treeRule a_treeStart a_treeEnd a_treeDepth tk nx ln c N ρ) : xl_LG post f_pendingCount f_length f_treeNodes f_emitted f_listing a_pending a_text a_operation a_operand a_opens a_stage a_hole a_treeRule a_treeStart a_treeEnd a_treeDepth tk nx ln c N (ρ + 1) := by
  intro e i j w k p m c1 x en t S far sil sil0 sb dep L kp lk ac b he tt hl hop har hen hev hi hif hfar hH hM hdep hd1 hS1 hS ht hL hb hs0 hsb K
  have hev' : pg_ag i ((pg_ev tk nx ln c ρ).1 (e + 1) i) (fun j => (pg_ev tk nx ln c ρ).2 e j) = (j + 2, w, k, p) := hev
  obtain ⟨s1, s2, s3⟩ := pg_C_u hX.1 he (by omega)
  have hH' : xl_H tk nx ln c N (ρ - 1) ac := xl_H_le hH (by omega)
  have hN16 := hX.2.1
  have h68 := xl_cnt_le ac 68
  have z1 := xl_sz hX.1 _ _ _ _ s1 hl
  have hbs := xl_b_m (xl_b_s hb hs0) (show nx (e + 1) - (e + 1) ≤ nx e - e by omega)
  rcases ha : (pg_ev tk nx ln c ρ).1 (e + 1) i with ⟨_ | _ | j1, wa, ka, pa⟩
  · rw [ha] at hev'
    simp only [pg_ag, pg_B, Prod.mk.injEq] at hev'
    omega
  · have ba := xl_bd hX s1 ha hi (by omega)
    rw [ha] at hev'
    simp only [pg_ag, Prod.mk.injEq] at hev'
    obtain ⟨hj, rfl, rfl, rfl⟩ := hev'
    obtain rfl : i = j := by omega
    refine (ih (e + 1) i 1 wa ka pa m c1 x t ((en, i, L.length, sb) :: S) far sil dep L kp lk ac b s1 hl (by omega) ha hi hif hfar hH' hM hdep hd1 (Nat.succ_pos _) (by show S.length + 1 + _ ≤ _; omega) (by omega) hL hbs).1 rfl (fun t1 far1 L1 kp1 lk1 hf1 ht1 hM1 hp1 => ?_)
    refine xf_a (by omega) (by omega) hp1.length_le ?_
    rw [xl_cap hp1]
    exact K (t1 + 1) far1 _ L kp1 lk1 hf1 (xl_ap_n hL).symm (by omega) hM1 hsb
  · have ba := xl_bd hX s1 ha hi (by omega)
    have ba' := ba.2.2 j1 rfl
    have body := (ih (e + 1) i (j1 + 2) wa ka pa m c1 x t ((en, i, L.length, sb) :: S) far sil dep L kp lk ac b s1 hl (by omega) ha hi hif hfar hH' hM hdep hd1 (Nat.succ_pos _) (by show S.length + 1 + _ ≤ _; omega))
    by_cases hji : j1 = i
    · rw [ha] at hev'
      simp only [pg_ag, if_pos hji, Prod.mk.injEq] at hev'
      obtain ⟨hj, rfl, rfl, rfl⟩ := hev'
      obtain rfl : i = j := by omega
      subst hji
      refine (body (by omega) hL hbs).2 j1 rfl (fun t1 far1 sil1 L1 kp1 lk1 hf1 hL1 ht1 hM1 hs1 => ?_)
      have fin := K (t1 + 1) far1 sil1 L1 kp1 lk1 hf1 hL1 (by omega) hM1 (xl_sb_t hs0 hs1)
      rcases hop with ⟨ho, rfl⟩ | ⟨ho, rfl⟩
      · exact xr_7 (by omega) (by omega) ho har (by omega) (by omega) (by omega) (fun _ => fin) (fun y => absurd rfl y)
      · exact xr_12 (by omega) (by omega) ho har (by omega) (by omega) (by omega) (fun _ => fin) (fun y => absurd rfl y)
    · rcases hbb : (pg_ev tk nx ln c ρ).2 e j1 with ⟨ob, wb, kb, pb⟩
      rw [ha] at hev'
      simp only [pg_ag, if_neg hji, hbb, Prod.mk.injEq] at hev'
      obtain ⟨rfl, rfl, rfl, rfl⟩ := hev'
      refine (body (by omega) hL hbs).2 j1 rfl (fun t1 far1 sil1 L1 kp1 lk1 hf1 hL1 ht1 hM1 hs1 => ?_)
      subst hL1
      have rest := ihg e j1 j wb kb pb m c1 x en (t1 + 1) S far1 sil1 sil0 sb dep (xl_ap b L pa) kp1 lk1 ac b he tt hl hop har hen hbb (by omega) (by omega) (by omega) hH' hM1 hdep hd1 hS1 hS (by omega) (xl_ap_l hL).1 hb (xl_sb_t hs0 hs1) hsb
        (fun t' far' sil' L' kp' lk' hf' hL' ht' hM' hs' => K t' far' sil' L' kp' lk' (by omega) (hL'.trans xl_ap_a) (by omega) hM' hs')
      rcases hop with ⟨ho, rfl⟩ | ⟨ho, rfl⟩
      · exact xr_7 (by omega) (by omega) ho har (by omega) (by omega) (by omega) (fun y => absurd y.symm hji) (fun _ => rest)
      · exact xr_12 (by omega) (by omega) ho har (by omega) (by omega) (by omega) (fun y => absurd y.symm hji) (fun _ => rest)
theorem xl_la_12 (hX : xl_X f_length a_text a_operation a_operand tk nx ln c N) (ihg : xl_LG post f_pendingCount f_length f_treeNodes f_emitted f_listing a_pending a_text a_operation a_operand a_opens a_stage a_hole a_treeRule a_treeStart a_treeEnd a_treeDepth tk nx ln c N ρ) : ∀ (e i o w k : Nat) (p : List (Nat × Nat)) (m c1 c2 t : Nat) (S : List xm_Fr) (far : Nat) (sil : Int32) (dep : Nat) (L : List (Nat × Nat)) (kp lk ac : Nat → Int32) (b : Bool), tk e = 12 → pg_C nx ln e → xl_Lay tk nx a_operation a_operand m e c1 c2 → c2 < 160 → (pg_ev tk nx ln c (ρ + 1)).1 e i = (o, w, k, p) → i ≤ N → i ≤ far → far ≤ 17 → xl_H tk nx ln c N ρ ac → xl_M tk nx ln c N kp lk → dep = xl_cnt ac 68 → 1 ≤ dep → 1 ≤ S.length → S.length + (nx e - e) ≤ 12 * dep + 1 → t + xl_pot kp ac 68 + k < 4000000 → L.length ≤ 30 → xl_b f_listing dep sil (nx e - e) b → (o = 1 → (∀ (t' far' : Nat) (L' : List (Nat × Nat)) (kp' lk' : Nat → Int32), far' = max far w → t' + 1 + xl_pot kp' ac 68 ≤ t + xl_pot kp ac 68 + k → xl_M tk nx ln c N kp' lk' → L <+: L' → xm_FF post f_pendingCount f_length f_treeNodes f_emitted f_listing a_pending a_text a_operation a_operand a_opens a_stage a_hole a_treeRule a_treeStart a_treeEnd a_treeDepth t' S far' dep L' kp' lk' ac) → xm_GG post f_pendingCount f_length f_treeNodes f_emitted f_listing a_pending a_text a_operation a_operand a_opens a_stage a_hole a_treeRule a_treeStart a_treeEnd a_treeDepth t S c1 i far sil dep L kp lk ac) ∧ (∀ j, o = j + 2 → (∀ (t' far' : Nat) (sil' : Int32) (L' : List (Nat × Nat)) (kp' lk' : Nat → Int32), far' = max far w → L' = xl_ap b L p → t' + xl_pot kp' ac 68 ≤ t + xl_pot kp ac 68 + k → xl_M tk nx ln c N kp' lk' → xl_sb sil sil' → xm_GG post f_pendingCount f_length f_treeNodes f_emitted f_listing a_pending a_text a_operation a_operand a_opens a_stage a_hole a_treeRule a_treeStart a_treeEnd a_treeDepth t' S c2 j far' sil' dep L' kp' lk' ac) → xm_GG post f_pendingCount f_length f_treeNodes f_emitted f_listing a_pending a_text a_operation a_operand a_opens a_stage a_hole a_treeRule a_treeStart a_treeEnd a_treeDepth t S c1 i far sil dep L kp lk ac) := by
  intro e i o w k p m c1 c2 t S far sil dep L kp lk ac b tt he hl h160 hev hi hif hfar hH hM hdep hd1 hS1 hS ht hL hb
  have hev' : pg_D tk nx ln c (pg_ev tk nx ln c ρ).1 (pg_ev tk nx ln c ρ).2 e i = (o, w, k, p) := hev
  rw [pg_D_12 tt] at hev'
  obtain ⟨s1, s2, s3⟩ := pg_C_u hX.1 he (by omega)
  have hH' := xl_H_le hH (Nat.sub_le ρ 1)
  have hN16 := hX.2.1
  have h68 := xl_cnt_le ac 68
  cases m with
  | zero => exact hl.elim
  | succ m =>
    obtain ⟨x, g1, g2, l1, g3, g4, rfl⟩ := (xl_12 tt).mp hl
    have z1 := xl_sz hX.1 _ _ _ _ s1 l1
    have hge := ((pg_bd hX.1 hX.2.2.2.1 ρ e i he hi).2 (Or.inl tt)).2
    rcases ha : (pg_ev tk nx ln c ρ).2 e i with ⟨oa, wa, ka, pa⟩
    rw [ha] at hev' hge
    simp only [pg_st, Prod.mk.injEq] at hev' hge
    obtain ⟨rfl, rfl, rfl, rfl⟩ := hev'
    refine ⟨fun h => absurd (hge (by omega)) (by omega), fun j ho K => ?_⟩
    subst ho
    refine xr_5 (by omega) (by omega) g1 g2 (by omega) (by omega) (by omega) ?_
    exact ihg e i j wa ka pa m (c1 + 1) x (x + 1) (t + 1) S far sil sil _ dep L kp lk ac b he (Or.inl tt) l1 (Or.inl ⟨g3, rfl⟩) g4 h160 ha hi hif hfar hH' hM hdep hd1 hS1 hS (by omega) hL hb xl_sb_r xl_sb_b
      (fun t' far' sil' L' kp' lk' hf' hL' ht' hM' hs' => K t' far' sil' L' kp' lk' hf' hL' (by omega) hM' hs')
theorem xl_la_13 (hX : xl_X f_length a_text a_operation a_operand tk nx ln c N) (ih : xl_LA post f_pendingCount f_length f_treeNodes f_emitted f_listing a_pending a_text a_operation a_operand a_opens a_stage a_hole a_treeRule a_treeStart a_treeEnd a_treeDepth tk nx ln c N ρ) (ihg : xl_LG post f_pendingCount f_length f_treeNodes f_emitted f_listing a_pending a_text a_operation a_operand a_opens a_stage a_hole a_treeRule a_treeStart a_treeEnd a_treeDepth tk nx ln c N ρ) : ∀ (e i o w k : Nat) (p : List (Nat × Nat)) (m c1 c2 t : Nat) (S : List xm_Fr) (far : Nat) (sil : Int32) (dep : Nat) (L : List (Nat × Nat)) (kp lk ac : Nat → Int32) (b : Bool), tk e = 13 → pg_C nx ln e → xl_Lay tk nx a_operation a_operand m e c1 c2 → c2 < 160 → (pg_ev tk nx ln c (ρ + 1)).1 e i = (o, w, k, p) → i ≤ N → i ≤ far → far ≤ 17 → xl_H tk nx ln c N ρ ac → xl_M tk nx ln c N kp lk → dep = xl_cnt ac 68 → 1 ≤ dep → 1 ≤ S.length → S.length + (nx e - e) ≤ 12 * dep + 1 → t + xl_pot kp ac 68 + k < 4000000 → L.length ≤ 30 → xl_b f_listing dep sil (nx e - e) b → (o = 1 → (∀ (t' far' : Nat) (L' : List (Nat × Nat)) (kp' lk' : Nat → Int32), far' = max far w → t' + 1 + xl_pot kp' ac 68 ≤ t + xl_pot kp ac 68 + k → xl_M tk nx ln c N kp' lk' → L <+: L' → xm_FF post f_pendingCount f_length f_treeNodes f_emitted f_listing a_pending a_text a_operation a_operand a_opens a_stage a_hole a_treeRule a_treeStart a_treeEnd a_treeDepth t' S far' dep L' kp' lk' ac) → xm_GG post f_pendingCount f_length f_treeNodes f_emitted f_listing a_pending a_text a_operation a_operand a_opens a_stage a_hole a_treeRule a_treeStart a_treeEnd a_treeDepth t S c1 i far sil dep L kp lk ac) ∧ (∀ j, o = j + 2 → (∀ (t' far' : Nat) (sil' : Int32) (L' : List (Nat × Nat)) (kp' lk' : Nat → Int32), far' = max far w → L' = xl_ap b L p → t' + xl_pot kp' ac 68 ≤ t + xl_pot kp ac 68 + k → xl_M tk nx ln c N kp' lk' → xl_sb sil sil' → xm_GG post f_pendingCount f_length f_treeNodes f_emitted f_listing a_pending a_text a_operation a_operand a_opens a_stage a_hole a_treeRule a_treeStart a_treeEnd a_treeDepth t' S c2 j far' sil' dep L' kp' lk' ac) → xm_GG post f_pendingCount f_length f_treeNodes f_emitted f_listing a_pending a_text a_operation a_operand a_opens a_stage a_hole a_treeRule a_treeStart a_treeEnd a_treeDepth t S c1 i far sil dep L kp lk ac) := by
  intro e i o w k p m c1 c2 t S far sil dep L kp lk ac b tt he hl h160 hev hi hif hfar hH hM hdep hd1 hS1 hS ht hL hb
  have hev' : pg_D tk nx ln c (pg_ev tk nx ln c ρ).1 (pg_ev tk nx ln c ρ).2 e i = (o, w, k, p) := hev
  rw [pg_D_13 tt] at hev'
  obtain ⟨s1, s2, s3⟩ := pg_C_u hX.1 he (by omega)
  have hH' := xl_H_le hH (Nat.sub_le ρ 1)
  have hN16 := hX.2.1
  have h68 := xl_cnt_le ac 68
  cases m with
  | zero => exact hl.elim
  | succ m =>
    obtain ⟨x, g1, g2, l1, g3, g4, g5, rfl⟩ := (xl_13 tt).mp hl
    have z1 := xl_sz hX.1 _ _ _ _ s1 l1
    rcases ha : (pg_ev tk nx ln c ρ).1 (e + 1) i with ⟨_ | _ | j1, wa, ka, pa⟩
    · rw [ha] at hev'
      simp only [pg_pl, pg_B, Prod.mk.injEq] at hev'
      exact ⟨fun h => absurd h (by omega), fun j h => absurd h (by omega)⟩
    · have ba := xl_bd hX s1 ha hi (by omega)
      rw [ha] at hev'
      simp only [pg_pl, Prod.mk.injEq] at hev'
      obtain ⟨rfl, rfl, rfl, rfl⟩ := hev'
      refine ⟨fun ho K => xr_5 (by omega) (by omega) g1 g2 (by omega) (by omega) (by omega) ?_, fun j h => absurd h (by omega)⟩
      refine (ih (e + 1) i 1 wa ka pa m (c1 + 1) x (t + 1) ((x + 1, i, L.length, sil.toInt8.toInt32) :: S) far sil dep L kp lk ac b s1 l1 (by omega) ha hi hif hfar hH' hM hdep hd1 (Nat.succ_pos _) (by show S.length + 1 + _ ≤ _; omega) (by omega) hL (xl_b_m hb (by omega))).1 rfl (fun t1 far1 L1 kp1 lk1 hf1 ht1 hM1 hp1 => ?_)
      refine xf_a (by omega) (by omega) hp1.length_le ?_
      rw [xl_cap hp1]
      exact xr_11 (by omega) (by omega) g5 (K (t1 + 1) far1 L kp1 lk1 hf1 (by omega) hM1 (List.prefix_refl L))
    · have ba := xl_bd hX s1 ha hi (by omega)
      have ba' := ba.2.2 j1 rfl
      have body := (ih (e + 1) i (j1 + 2) wa ka pa m (c1 + 1) x (t + 1) ((x + 1, i, L.length, sil.toInt8.toInt32) :: S) far sil dep L kp lk ac b s1 l1 (by omega) ha hi hif hfar hH' hM hdep hd1 (Nat.succ_pos _) (by show S.length + 1 + _ ≤ _; omega))
      by_cases hji : j1 = i
      · subst hji
        have hii := pg_pl_i (tk := tk) (nx := nx) (ln := ln) (c := c) (n := ρ) (e := e) (i := j1) (by rw [ha])
        rw [ha] at hev'
        simp only [pg_pl, if_true, Prod.mk.injEq] at hev'
        obtain ⟨ho1, rfl, rfl, rfl⟩ := hev'
        rw [ho1] at hii
        refine ⟨fun h => absurd (hii (by omega)) (by omega), fun j ho K => xr_5 (by omega) (by omega) g1 g2 (by omega) (by omega) (by omega) ?_⟩
        have := hii (by omega)
        obtain rfl : j1 = j := by omega
        refine (body (by omega) hL (xl_b_m hb (by omega))).2 j1 rfl (fun t1 far1 sil1 L1 kp1 lk1 hf1 hL1 ht1 hM1 hs1 => ?_)
        exact xr_12 (by omega) (by omega) g3 g4 (by omega) (by omega) (by omega) (fun _ => K (t1 + 1) far1 sil1 L1 kp1 lk1 hf1 hL1 (by omega) hM1 hs1) (fun y => absurd rfl y)
      · have hge := ((pg_bd hX.1 hX.2.2.2.1 ρ e j1 he ba'.2.2).2 (Or.inr tt)).2
        rcases hbb : (pg_ev tk nx ln c ρ).2 e j1 with ⟨ob, wb, kb, pb⟩
        rw [ha] at hev'
        rw [hbb] at hge
        simp only [pg_pl, if_neg hji, hbb, Prod.mk.injEq] at hev' hge
        obtain ⟨rfl, rfl, rfl, rfl⟩ := hev'
        refine ⟨fun h => absurd (hge (by omega)) (by omega), fun j ho K => xr_5 (by omega) (by omega) g1 g2 (by omega) (by omega) (by omega) ?_⟩
        subst ho
        refine (body (by omega) hL (xl_b_m hb (by omega))).2 j1 rfl (fun t1 far1 sil1 L1 kp1 lk1 hf1 hL1 ht1 hM1 hs1 => ?_)
        subst hL1
        refine xr_12 (by omega) (by omega) g3 g4 (by omega) (by omega) (by omega) (fun y => absurd y.symm hji) (fun _ => ?_)
        exact ihg e j1 j wb kb pb m (c1 + 1) x (x + 2) (t1 + 1) S far1 sil1 sil _ dep (xl_ap b L pa) kp1 lk1 ac b he (Or.inr tt) l1 (Or.inr ⟨g3, rfl⟩) g4 h160 hbb (by omega) (by omega) (by omega) hH' hM1 hdep hd1 hS1 hS (by omega) (xl_ap_l hL).1 hb hs1 xl_sb_b
          (fun t' far' sil' L' kp' lk' hf' hL' ht' hM' hs' => K t' far' sil' L' kp' lk' (by omega) (hL'.trans xl_ap_a) (by omega) hM' hs')
end
end
section
/-! a call; the induction on the rank -/
section
variable {tk nx ln c : Nat → Nat} {N ρ : Nat}
theorem xl_kT (hG : pg_G tk nx ln) (hN : ∀ x, N ≤ x → c x = 0) (hN16 : N ≤ 16) {r i o w k : Nat} {p : List (Nat × Nat)} (hr : r < 4) (hl : ln r ≠ 0) (hi : i ≤ N) (hev : (pg_ev tk nx ln c ρ).1 (12 * r) i = (o, w, k, p)) (ho : o ≠ 0) : k + 1 ≤ pt_T (16 - i) := by
  obtain ⟨h1, h2, h3⟩ := pg_C_r hG hr hl
  have q := (pg_cost hG hN hN16 ρ _ i h1 hi).1
  have b := (pg_bd hG hN ρ _ i h1 hi).1
  rw [hev] at q b
  obtain ⟨q1, q2⟩ := q ho
  have b1 := b ho
  simp only at q1 q2 b1
  have tt := pt_t (m := nx (12 * r) - 12 * r) (n := 16 - i) (by omega) (by omega) (by omega)
  by_cases z : o = 1
  · have := q1 (Or.inl z)
    omega
  · have b2 := b1.2.2 (by omega)
    by_cases y : o = i + 2
    · have := q1 (Or.inr y)
      omega
    · have := q2 (o - 2) (by omega) (by omega)
      omega
theorem xl_V_u {r i o w o' w' k' : Nat} {p' : List (Nat × Nat)} (h : xl_V tk nx ln c r i o w) (hl : ln r ≠ 0) (hev : (pg_ev tk nx ln c ρ).1 (12 * r) i = (o', w', k', p')) (ho : o' ≠ 0) : o = o' ∧ w = w' := by
  rcases h with ⟨h, _⟩ | ⟨_, h2, n, k, p, h3⟩
  · exact absurd h hl
  · have := pg_ev_u (tk := tk) (nx := nx) (ln := ln) (c := c) (n := ρ) (m := n) (e := 12 * r) (i := i) (by rw [hev]; exact ho) (by rw [h3]; exact h2)
    rw [hev, h3] at this
    simp only [Prod.mk.injEq] at this
    exact ⟨this.1, this.2.1⟩
theorem xl_H_e {r i : Nat} {ac : Nat → Int32} (hN : N ≤ 16) (h : xl_H tk nx ln c N ρ ac) (hi : i ≤ N) (h0 : ((pg_ev tk nx ln c ρ).1 (12 * r) i).1 = 0) : xl_H tk nx ln c N ρ (upd ac (17 * r + i) 1) := by
  intro r' j hr' hj ha
  by_cases z : 17 * r' + j = 17 * r + i
  · obtain rfl : r' = r := by omega
    obtain rfl : j = i := by omega
    exact h0
  · rw [pk_un z] at ha
    exact h r' j hr' hj ha
end
section
variable {post : SX → Prop} {f_pendingCount f_length f_treeNodes f_emitted f_listing : Int32} {a_pending a_text a_operation a_operand a_opens a_stage a_hole a_treeRule a_treeStart a_treeEnd a_treeDepth : Nat → Int32}
variable {tk nx ln c : Nat → Nat} {N ρ : Nat}
theorem xl_la_c (hX : xl_X f_length a_text a_operation a_operand tk nx ln c N) (ih : ∀ ρ', ρ' ≤ ρ → xl_LA post f_pendingCount f_length f_treeNodes f_emitted f_listing a_pending a_text a_operation a_operand a_opens a_stage a_hole a_treeRule a_treeStart a_treeEnd a_treeDepth tk nx ln c N ρ') : ∀ (e i o w k : Nat) (p : List (Nat × Nat)) (m c1 c2 t : Nat) (S : List xm_Fr) (far : Nat) (sil : Int32) (dep : Nat) (L : List (Nat × Nat)) (kp lk ac : Nat → Int32) (b : Bool), (∃ r, r < 4 ∧ tk e = 20 + r) → pg_C nx ln e → xl_Lay tk nx a_operation a_operand m e c1 c2 → c2 < 160 → (pg_ev tk nx ln c (ρ + 1)).1 e i = (o, w, k, p) → i ≤ N → i ≤ far → far ≤ 17 → xl_H tk nx ln c N ρ ac → xl_M tk nx ln c N kp lk → dep = xl_cnt ac 68 → 1 ≤ dep → 1 ≤ S.length → S.length + (nx e - e) ≤ 12 * dep + 1 → t + xl_pot kp ac 68 + k < 4000000 → L.length ≤ 30 → xl_b f_listing dep sil (nx e - e) b → (o = 1 → (∀ (t' far' : Nat) (L' : List (Nat × Nat)) (kp' lk' : Nat → Int32), far' = max far w → t' + 1 + xl_pot kp' ac 68 ≤ t + xl_pot kp ac 68 + k → xl_M tk nx ln c N kp' lk' → L <+: L' → xm_FF post f_pendingCount f_length f_treeNodes f_emitted f_listing a_pending a_text a_operation a_operand a_opens a_stage a_hole a_treeRule a_treeStart a_treeEnd a_treeDepth t' S far' dep L' kp' lk' ac) → xm_GG post f_pendingCount f_length f_treeNodes f_emitted f_listing a_pending a_text a_operation a_operand a_opens a_stage a_hole a_treeRule a_treeStart a_treeEnd a_treeDepth t S c1 i far sil dep L kp lk ac) ∧ (∀ j, o = j + 2 → (∀ (t' far' : Nat) (sil' : Int32) (L' : List (Nat × Nat)) (kp' lk' : Nat → Int32), far' = max far w → L' = xl_ap b L p → t' + xl_pot kp' ac 68 ≤ t + xl_pot kp ac 68 + k → xl_M tk nx ln c N kp' lk' → xl_sb sil sil' → xm_GG post f_pendingCount f_length f_treeNodes f_emitted f_listing a_pending a_text a_operation a_operand a_opens a_stage a_hole a_treeRule a_treeStart a_treeEnd a_treeDepth t' S c2 j far' sil' dep L' kp' lk' ac) → xm_GG post f_pendingCount f_length f_treeNodes f_emitted f_listing a_pending a_text a_operation a_operand a_opens a_stage a_hole a_treeRule a_treeStart a_treeEnd a_treeDepth t S c1 i far sil dep L kp lk ac) := by
  intro e i o w k p m c1 c2 t S far sil dep L kp lk ac b tt he hl h160 hev hi hif hfar hH hM hdep hd1 hS1 hS ht hL hb
  obtain ⟨r, hr, tt⟩ := tt
  have hev' : pg_D tk nx ln c (pg_ev tk nx ln c ρ).1 (pg_ev tk nx ln c ρ).2 e i = (o, w, k, p) := hev
  rw [pg_D_c hr tt] at hev'
  have hN16 := hX.2.1
  have h68 := xl_cnt_le ac 68
  have hnx := (pg_C_v hX.1 he).2.2.2 (by omega)
  obtain ⟨hX0, hX1⟩ := hX.2.2.2.2.2 r hr
  have hbq := xl_b_q hb
  cases m with
  | zero => exact hl.elim
  | succ m =>
    obtain ⟨g1, g2, rfl⟩ := (xl_c hr tt).mp hl
    by_cases hln : ln r = 0
    · rw [if_pos hln] at hev'
      simp only [Prod.mk.injEq] at hev'
      obtain ⟨rfl, rfl, rfl, rfl⟩ := hev'
      refine ⟨fun _ K => ?_, fun j h => absurd h (by omega)⟩
      rcases hM r i hr hi with hk | ⟨o', w', hv, hk, hw⟩
      · refine xr_cu (by omega) (by omega) g1 g2 hr (by omega) hk (hX0 hln) (K t far L _ _ (by omega) ?_ ?_ (List.prefix_refl L))
        · have := xl_pot_s (kp := kp) (ac := ac) (q := 17 * r + i) (v := -2) (by decide) 68
          omega
        · exact xl_M_u (o := 1) hN16 hM hi (Or.inl ⟨hln, rfl, rfl⟩)
      · rcases hv with ⟨_, rfl, rfl⟩ | ⟨h, _⟩
        · exact xr_c0 (w := w') (by omega) (by omega) g1 g2 hr (by omega) hfar (by omega) hk hw (K t _ L kp lk rfl (by omega) hM (List.prefix_refl L))
        · exact absurd hln h
    · rw [if_neg hln] at hev'
      obtain ⟨hX2, m', x', hx160, hx4, hlay⟩ := hX1 hln
      obtain ⟨s1, s2, s3⟩ := pg_C_r hX.1 hr hln
      rcases ha : (pg_ev tk nx ln c ρ).1 (12 * r) i with ⟨oa, wa, ka, pa⟩
      by_cases ho0 : oa = 0
      · rw [ha] at hev'
        subst ho0
        simp only [pg_ca, pg_B, Prod.mk.injEq] at hev'
        exact ⟨fun h => absurd h (by omega), fun j h => absurd h (by omega)⟩
      have ba := xl_bd hX s1 ha hi ho0
      have hkT := xl_kT hX.1 hX.2.2.2.1 hN16 hr hln hi ha ho0
      have hq : (17 * r + i) % 17 = i := by omega
      -- what both outcomes share
      have hko : k = 1 ∧ w = wa ∧ o = oa ∧ (∀ j, oa = j + 2 → p = [(17 * r + i, j)]) := by
        rw [ha] at hev'
        rcases oa with _ | _ | j
        · exact absurd rfl ho0
        · simp only [pg_ca, Prod.mk.injEq] at hev'
          exact ⟨hev'.2.2.1.symm, hev'.2.1.symm, hev'.1.symm, fun j h => absurd h (by omega)⟩
        · simp only [pg_ca, Prod.mk.injEq] at hev'
          exact ⟨hev'.2.2.1.symm, hev'.2.1.symm, hev'.1.symm, fun j' h => by rw [← hev'.2.2.2, show j' = j by omega]⟩
      obtain ⟨rfl, rfl, rfl, hp⟩ := hko
      rcases hM r i hr hi with hk | ⟨o', w', hv, hk, hw⟩
      · -- not known: the rule is entered
        have hac : ac (17 * r + i) = 0 := by
          by_cases z : ac (17 * r + i) = 0
          · exact z
          · have := hH r i hr hi z
            rw [ha] at this
            exact absurd this ho0
        obtain ⟨ρ', hρ', e1, e2⟩ := pg_ev_least (tk := tk) (nx := nx) (ln := ln) (c := c) (n := ρ) (e := 12 * r) (i := i) (by rw [ha]; exact ho0)
        rw [ha] at e1
        have hpe := xl_pot_e hk hac 68 (by omega)
        rw [hq] at hpe
        have hce := xl_cnt_e hac 68 (by omega)
        have hff : ∀ (v : Int32) (kp' : Nat → Int32), v ≠ -9 → xl_pot (upd kp' (17 * r + i) v) ac 68 = xl_pot kp' (upd ac (17 * r + i) 1) 68 := fun v kp' hv => xl_pot_f hv 68
        have frame := ih (ρ' + 1) hρ' (12 * r) i o w ka pa m' (40 * r) x' (t + 1) ((c1 + 1001, 17 * r + i, far, nI dep) :: S) i sil (dep + 1) L kp lk (upd ac (17 * r + i) 1) false s1 hlay hx160 e1 hi (Nat.le_refl i) (by omega)
          (xl_H_e hN16 (xl_H_le hH (by omega)) hi e2) hM (by omega) (by omega) (Nat.succ_pos _) (by show S.length + 1 + _ ≤ _; omega) (by omega) hL ⟨fun y => (nomatch y), fun _ => Or.inr (Or.inl (by omega))⟩
        refine ⟨fun ho K => xr_ce (by omega) (by omega) g1 g2 hr (by omega) hk hX2 hac (by omega) (by omega) (by omega) (frame.1 ho (fun t1 far1 L1 kp1 lk1 hf1 ht1 hM1 hp1 => ?_)), fun j ho K => xr_ce (by omega) (by omega) g1 g2 hr (by omega) hk hX2 hac (by omega) (by omega) (by omega) (frame.2 j ho (fun t1 far1 sil1 L1 kp1 lk1 hf1 hL1 ht1 hM1 hs1 => ?_))⟩
        · refine xf_c (by omega) (by omega) (by omega) (by omega) (by omega) (by omega) ?_
          rw [xl_uu hac]
          obtain rfl : far1 = w := by omega
          have := hff (-2) kp1 (by decide)
          have hmm := xl_M_u (o := 1) hN16 hM1 hi (Or.inr ⟨hln, by omega, ρ, ka, pa, by rw [ha, ho]⟩)
          exact K t1 (max far far1) L1 _ _ rfl (by omega) hmm hp1
        · obtain rfl : far1 = w := by omega
          obtain rfl : L1 = L := hL1
          have b3 := ba.2.2 j ho
          have hj9 : nI j ≠ -9 := by
            have := xl_m9 (j + 2) (by omega) (by omega)
            exact this
          have := hff (nI j) kp1 hj9
          have hbs := xl_b_q (xl_b_s hb hs1)
          have hmm := xl_M_u (o := j + 2) hN16 hM1 hi (Or.inr ⟨hln, by omega, ρ, ka, pa, by rw [ha, ho]⟩)
          refine xr_4 (p := c1 + 1) (by omega) hx160 hx4 (by omega) (by omega) (by omega) (by omega) (by omega) (by omega) (by omega) (by omega) b hbs.1 hbs.2 ?_
          rw [xl_uu hac]
          exact K (t1 + 1) (max far far1) sil1 _ _ _ rfl (by rw [xl_ap_x hL, hp j ho]) (by omega) hmm hs1
      · -- known
        obtain ⟨rfl, rfl⟩ := xl_V_u hv hln ha ho0
        refine ⟨fun ho K => ?_, fun j ho K => ?_⟩
        · subst ho
          exact xr_c0 (by omega) (by omega) g1 g2 hr (by omega) hfar (by omega) hk hw (K t _ L kp lk rfl (by omega) hM (List.prefix_refl L))
        · subst ho
          have b3 := ba.2.2 j rfl
          exact xr_c1 (j := j) (by omega) (by omega) g1 g2 hr (by omega) hfar (by omega) (by omega) (by omega) hk hw b hbq.1 hbq.2 (K (t + 1) _ sil _ kp lk rfl (by rw [xl_ap_x hL, hp j rfl]) (by omega) hM xl_sb_r)
theorem xl_main (hX : xl_X f_length a_text a_operation a_operand tk nx ln c N) (ρ : Nat) : (∀ ρ', ρ' ≤ ρ → xl_LA post f_pendingCount f_length f_treeNodes f_emitted f_listing a_pending a_text a_operation a_operand a_opens a_stage a_hole a_treeRule a_treeStart a_treeEnd a_treeDepth tk nx ln c N ρ') ∧ xl_LG post f_pendingCount f_length f_treeNodes f_emitted f_listing a_pending a_text a_operation a_operand a_opens a_stage a_hole a_treeRule a_treeStart a_treeEnd a_treeDepth tk nx ln c N ρ := by
  induction ρ with
  | zero =>
    refine ⟨fun ρ' h => ?_, ?_⟩
    · obtain rfl : ρ' = 0 := by omega
      intro e i o w k p m c1 c2 t S far sil dep L kp lk ac b he hl h160 hev hi hif hfar hH hM hdep hd1 hS1 hS ht hL hb
      have hev' : ((0, 0, 0, []) : pg_R) = (o, w, k, p) := hev
      simp only [Prod.mk.injEq] at hev'
      exact ⟨fun h => absurd h (by omega), fun j h => absurd h (by omega)⟩
    · intro e i j w k p m c1 x en t S far sil sil0 sb dep L kp lk ac b he tt hl hop har hen hev
      have hev' : ((0, 0, 0, []) : pg_R) = (j + 2, w, k, p) := hev
      simp only [Prod.mk.injEq] at hev'
      omega
  | succ ρ ih =>
    obtain ⟨ih, ihg⟩ := ih
    have ih1 := ih ρ (Nat.le_refl ρ)
    refine ⟨fun ρ' h => ?_, xl_lg_s hX ih1 ihg⟩
    by_cases z : ρ' ≤ ρ
    · exact ih ρ' z
    · obtain rfl : ρ' = ρ + 1 := by omega
      intro e i o w k p m c1 c2 t S far sil dep L kp lk ac b he hl h160 hev hi hif hfar hH hM hdep hd1 hS1 hS ht hL hb
      rcases pg_tc (pg_C_v hX.1 he).1 with tt | tt | tt | tt | tt | tt | tt | tt | tt | tt
      · exact xl_la_2 hX e i o w k p m c1 c2 t S far sil dep L kp lk ac b tt he hl h160 hev hi hif hfar hH hM hdep hd1 hS1 hS ht hL hb (by omega)
      · exact xl_la_10 hX ih1 e i o w k p m c1 c2 t S far sil dep L kp lk ac b tt he hl h160 hev hi hif hfar hH hM hdep hd1 hS1 hS ht hL hb
      · exact xl_la_11 hX ih1 e i o w k p m c1 c2 t S far sil dep L kp lk ac b tt he hl h160 hev hi hif hfar hH hM hdep hd1 hS1 hS ht hL hb
      · exact xl_la_12 hX ihg e i o w k p m c1 c2 t S far sil dep L kp lk ac b tt he hl h160 hev hi hif hfar hH hM hdep hd1 hS1 hS ht hL hb
      · exact xl_la_13 hX ih1 ihg e i o w k p m c1 c2 t S far sil dep L kp lk ac b tt he hl h160 hev hi hif hfar hH hM hdep hd1 hS1 hS ht hL hb
      · exact xl_la_14 hX ih1 e i o w k p m c1 c2 t S far sil dep L kp lk ac b tt he hl h160 hev hi hif hfar hH hM hdep hd1 hS1 hS ht hL hb
      · exact xl_la_15 hX ih1 e i o w k p m c1 c2 t S far sil dep L kp lk ac b tt he hl h160 hev hi hif hfar hH hM hdep hd1 hS1 hS ht hL hb
      · exact xl_la_16 hX ih1 e i o w k p m c1 c2 t S far sil dep L kp lk ac b tt he hl h160 hev hi hif hfar hH hM hdep hd1 hS1 hS ht hL hb
      · exact xl_la_c hX ih e i o w k p m c1 c2 t S far sil dep L kp lk ac b tt he hl h160 hev hi hif hfar hH hM hdep hd1 hS1 hS ht hL hb
      · exact xl_la_l hX e i o w k p m c1 c2 t S far sil dep L kp lk ac b tt he hl h160 hev hi hif hfar hH hM hdep hd1 hS1 hS ht hL hb (by omega)
end
end
section
/-! where no value exists the machine gets stuck -/
def xl_NV (tk nx ln c : Nat → Nat) (e i : Nat) : Prop := ∀ n, ((pg_ev tk nx ln c n).1 e i).1 = 0
def xl_NA (tk nx ln c : Nat → Nat) (e i : Nat) : Prop := ∀ n, ((pg_ev tk nx ln c n).2 e i).1 = 0
section
variable {tk nx ln c : Nat → Nat} {N e i : Nat}
theorem xl_nv_c (h : ¬ xl_NV tk nx ln c e i) : ∃ n o w k p, (pg_ev tk nx ln c n).1 e i = (o, w, k, p) ∧ o ≠ 0 := by
  apply Classical.byContradiction
  intro z
  apply h
  intro n
  apply Classical.byContradiction
  intro y
  exact z ⟨n, _, _, _, _, rfl, y⟩
theorem xl_nv_10 (t : tk e = 10) (h : xl_NV tk nx ln c e i) {n o w k : Nat} {p : List (Nat × Nat)} (ha : (pg_ev tk nx ln c n).1 (e + 1) i = (o, w, k, p)) (ho : o ≠ 0) : ∃ j, o = j + 2 ∧ xl_NV tk nx ln c (nx (e + 1)) j := by
  rcases o with _ | _ | j
  · exact absurd rfl ho
  · have := h (n + 1)
    have h2 : (pg_D tk nx ln c (pg_ev tk nx ln c n).1 (pg_ev tk nx ln c n).2 e i).1 = 0 := this
    rw [pg_D_10 t, ha] at h2
    exact absurd h2 (by show ¬ 1 = 0; decide)
  · refine ⟨j, rfl, fun q => ?_⟩
    apply Classical.byContradiction
    intro z
    have h2 : (pg_D tk nx ln c (pg_ev tk nx ln c (n + q)).1 (pg_ev tk nx ln c (n + q)).2 e i).1 = 0 := h (n + q + 1)
    rw [pg_D_10 t, pg_ev_D (Nat.le_add_right n q) (by rw [ha]; exact ho), ha] at h2
    have h3 : ((pg_ev tk nx ln c (n + q)).1 (nx (e + 1)) j).1 = 0 := h2
    rw [pg_ev_D (Nat.le_add_left q n) z] at h3
    exact z h3
theorem xl_nv_11 (t : tk e = 11) (h : xl_NV tk nx ln c e i) {n o w k : Nat} {p : List (Nat × Nat)} (ha : (pg_ev tk nx ln c n).1 (e + 1) i = (o, w, k, p)) (ho : o ≠ 0) : o = 1 ∧ xl_NV tk nx ln c (nx (e + 1)) i := by
  rcases o with _ | _ | j
  · exact absurd rfl ho
  · refine ⟨rfl, fun q => ?_⟩
    apply Classical.byContradiction
    intro z
    have h2 : (pg_D tk nx ln c (pg_ev tk nx ln c (n + q)).1 (pg_ev tk nx ln c (n + q)).2 e i).1 = 0 := h (n + q + 1)
    rw [pg_D_11 t, pg_ev_D (Nat.le_add_right n q) (by rw [ha]; exact ho), ha] at h2
    have h3 : ((pg_ev tk nx ln c (n + q)).1 (nx (e + 1)) i).1 = 0 := h2
    rw [pg_ev_D (Nat.le_add_left q n) z] at h3
    exact z h3
  · have h2 : (pg_D tk nx ln c (pg_ev tk nx ln c n).1 (pg_ev tk nx ln c n).2 e i).1 = 0 := h (n + 1)
    rw [pg_D_11 t, ha] at h2
    exact absurd h2 (by show ¬ j + 2 = 0; omega)
theorem xl_nv_12 (t : tk e = 12) (h : xl_NV tk nx ln c e i) : xl_NA tk nx ln c e i := by
  intro n
  have h2 : (pg_D tk nx ln c (pg_ev tk nx ln c n).1 (pg_ev tk nx ln c n).2 e i).1 = 0 := h (n + 1)
  rw [pg_D_12 t] at h2
  exact h2
theorem xl_na (h : xl_NA tk nx ln c e i) {n o w k : Nat} {p : List (Nat × Nat)} (ha : (pg_ev tk nx ln c n).1 (e + 1) i = (o, w, k, p)) (ho : o ≠ 0) : ∃ j, o = j + 2 ∧ j ≠ i ∧ xl_NA tk nx ln c e j := by
  rcases o with _ | _ | j
  · exact absurd rfl ho
  · have h2 : (pg_ag i ((pg_ev tk nx ln c n).1 (e + 1) i) (fun j => (pg_ev tk nx ln c n).2 e j)).1 = 0 := h (n + 1)
    rw [ha] at h2
    exact absurd h2 (by show ¬ i + 2 = 0; omega)
  · by_cases hj : j = i
    · have h2 : (pg_ag i ((pg_ev tk nx ln c n).1 (e + 1) i) (fun j => (pg_ev tk nx ln c n).2 e j)).1 = 0 := h (n + 1)
      rw [ha] at h2
      simp only [pg_ag, if_pos hj] at h2
      omega
    · refine ⟨j, rfl, hj, fun q => ?_⟩
      apply Classical.byContradiction
      intro z
      have h2 : (pg_ag i ((pg_ev tk nx ln c (n + q)).1 (e + 1) i) (fun j => (pg_ev tk nx ln c (n + q)).2 e j)).1 = 0 := h (n + q + 1)
      rw [pg_ev_D (Nat.le_add_right n q) (by rw [ha]; exact ho), ha] at h2
      simp only [pg_ag, if_neg hj] at h2
      rw [pg_ev_A (Nat.le_add_left q n) z] at h2
      exact z h2
theorem xl_nv_13 (t : tk e = 13) (h : xl_NV tk nx ln c e i) {n o w k : Nat} {p : List (Nat × Nat)} (ha : (pg_ev tk nx ln c n).1 (e + 1) i = (o, w, k, p)) (ho : o ≠ 0) : ∃ j, o = j + 2 ∧ j ≠ i ∧ xl_NA tk nx ln c e j := by
  rcases o with _ | _ | j
  · exact absurd rfl ho
  · have h2 : (pg_D tk nx ln c (pg_ev tk nx ln c n).1 (pg_ev tk nx ln c n).2 e i).1 = 0 := h (n + 1)
    rw [pg_D_13 t, ha] at h2
    exact absurd h2 (by show ¬ 1 = 0; decide)
  · have key : xl_NA tk nx ln c e j := by
      intro q
      apply Classical.byContradiction
      intro z
      have h2 : (pg_D tk nx ln c (pg_ev tk nx ln c (n + q)).1 (pg_ev tk nx ln c (n + q)).2 e i).1 = 0 := h (n + q + 1)
      rw [pg_D_13 t, pg_ev_D (Nat.le_add_right n q) (by rw [ha]; exact ho), ha] at h2
      have h3 : ((pg_ev tk nx ln c (n + q)).2 e j).1 = 0 := by
        by_cases hj : j = i
        · simp only [pg_pl, if_pos hj] at h2
          exact h2
        · simp only [pg_pl, if_neg hj] at h2
          exact h2
      rw [pg_ev_A (Nat.le_add_left q n) z] at h3
      exact z h3
    refine ⟨j, rfl, fun hj => ?_, key⟩
    subst hj
    obtain ⟨j', h1, h2, _⟩ := xl_na key ha ho
    omega
theorem xl_nv_u (t : tk e = 14 ∨ tk e = 15 ∨ tk e = 16) (h : xl_NV tk nx ln c e i) : xl_NV tk nx ln c (e + 1) i := by
  intro n
  apply Classical.byContradiction
  intro z
  have h2 : (pg_D tk nx ln c (pg_ev tk nx ln c n).1 (pg_ev tk nx ln c n).2 e i).1 = 0 := h (n + 1)
  rcases ha : (pg_ev tk nx ln c n).1 (e + 1) i with ⟨o, w, k, p⟩
  rw [ha] at z
  rcases t with t | t | t
  · rw [pg_D_14 t, ha] at h2
    rcases o with _ | _ | j
    · exact z rfl
    · exact absurd h2 (by show ¬ i + 2 = 0; omega)
    · exact absurd h2 (by show ¬ j + 2 = 0; omega)
  · rw [pg_D_15 t, ha] at h2
    rcases o with _ | _ | j
    · exact z rfl
    · exact absurd h2 (by show ¬ 1 = 0; omega)
    · exact absurd h2 (by show ¬ i + 2 = 0; omega)
  · rw [pg_D_16 t, ha] at h2
    rcases o with _ | _ | j
    · exact z rfl
    · exact absurd h2 (by show ¬ i + 2 = 0; omega)
    · exact absurd h2 (by show ¬ 1 = 0; omega)
theorem xl_nv_r {r : Nat} (hr : r < 4) (t : tk e = 20 + r) (h : xl_NV tk nx ln c e i) : ln r ≠ 0 ∧ xl_NV tk nx ln c (12 * r) i := by
  have hl : ln r ≠ 0 := by
    intro hl
    have h2 : (pg_D tk nx ln c (pg_ev tk nx ln c 0).1 (pg_ev tk nx ln c 0).2 e i).1 = 0 := h 1
    rw [pg_D_c hr t, if_pos hl] at h2
    exact absurd h2 (by show ¬ 1 = 0; decide)
  refine ⟨hl, fun n => ?_⟩
  have h2 : (pg_D tk nx ln c (pg_ev tk nx ln c n).1 (pg_ev tk nx ln c n).2 e i).1 = 0 := h (n + 1)
  rw [pg_D_c hr t, if_neg hl] at h2
  rcases ha : (pg_ev tk nx ln c n).1 (12 * r) i with ⟨_ | _ | j, w, k, p⟩
  · rfl
  · rw [ha] at h2
    exact absurd h2 (by show ¬ 1 = 0; decide)
  · rw [ha] at h2
    exact absurd h2 (by show ¬ j + 2 = 0; omega)
theorem xl_nv_l (t : tk e = 2 ∨ (tk e = 1 ∨ tk e = 3 ∨ 24 ≤ tk e)) (h : xl_NV tk nx ln c e i) : False := by
  have h2 : (pg_D tk nx ln c (pg_ev tk nx ln c 0).1 (pg_ev tk nx ln c 0).2 e i).1 = 0 := h 1
  rcases t with t | t
  · rw [pg_D_2 t] at h2
    exact absurd h2 (by show ¬ i + 2 = 0; omega)
  · rw [pg_D_l t] at h2
    unfold pg_le at h2
    split at h2
    · exact absurd h2 (by show ¬ i + 3 = 0; omega)
    · exact absurd h2 (by show ¬ 1 = 0; omega)
/-- the cost of a value, for the divergence table -/
theorem xl_kD (hG : pg_G tk nx ln) (hN : ∀ x, N ≤ x → c x = 0) (hN16 : N ≤ 16) (he : pg_C nx ln e) (hi : i ≤ N) {n o w k : Nat} {p : List (Nat × Nat)} (hev : (pg_ev tk nx ln c n).1 e i = (o, w, k, p)) (ho : o ≠ 0) :
    (o = 1 ∨ o = i + 2 → k ≤ pt_Z 0 (nx e - e) (16 - i)) ∧ (∀ j, o = j + 2 → i < j → k + pt_P (nx e - e) (16 - j) ≤ pt_N (nx e - e) (16 - i) + pt_P (nx e - e) (16 - i)) := by
  have q := (pg_cost hG hN hN16 n _ i he hi).1
  rw [hev] at q
  obtain ⟨q1, q2⟩ := q ho
  exact ⟨fun z => (q1 z).1, q2⟩
end
def xl_LB (post : SX → Prop) (f_pendingCount f_length f_treeNodes f_emitted f_listing : Int32) (a_pending a_text a_operation a_operand a_opens a_stage a_hole a_treeRule a_treeStart a_treeEnd a_treeDepth : Nat → Int32) (tk nx ln c : Nat → Nat) (N f s : Nat) : Prop := ∀ (e i m c1 c2 t : Nat) (S : List xm_Fr) (far : Nat) (sil : Int32) (dep : Nat) (L : List (Nat × Nat)) (kp lk ac : Nat → Int32),
  nx e - e ≤ s → 68 - dep < f → pg_C nx ln e → xl_Lay tk nx a_operation a_operand m e c1 c2 → c2 < 160 → xl_NV tk nx ln c e i → i ≤ N → i ≤ far → far ≤ 17 → (∀ n, xl_H tk nx ln c N n ac) → xl_M tk nx ln c N kp lk → dep = xl_cnt ac 68 → 1 ≤ dep → 1 ≤ S.length → S.length + (nx e - e) ≤ 12 * dep + 1 → t + xl_pot kp ac 68 + pt_D (nx e - e) (16 - i) < 4000000 → L.length ≤ 30 → xm_GG post f_pendingCount f_length f_treeNodes f_emitted f_listing a_pending a_text a_operation a_operand a_opens a_stage a_hole a_treeRule a_treeStart a_treeEnd a_treeDepth t S c1 i far sil dep L kp lk ac
section
variable {post : SX → Prop} {f_pendingCount f_length f_treeNodes f_emitted f_listing : Int32} {a_pending a_text a_operation a_operand a_opens a_stage a_hole a_treeRule a_treeStart a_treeEnd a_treeDepth : Nat → Int32}
variable {tk nx ln c : Nat → Nat} {N : Nat}
theorem xl_lbg (hX : xl_X f_length a_text a_operation a_operand tk nx ln c N) (li0 : f_listing = 0) {f s : Nat} (ih : xl_LB post f_pendingCount f_length f_treeNodes f_emitted f_listing a_pending a_text a_operation a_operand a_opens a_stage a_hole a_treeRule a_treeStart a_treeEnd a_treeDepth tk nx ln c N f s) {e m c1 x en : Nat} (he : pg_C nx ln e) (tt : tk e = 12 ∨ tk e = 13) (hse : nx e - e ≤ s + 1) (hl : xl_Lay tk nx a_operation a_operand m (e + 1) c1 x) (hop : (a_operation x = 7 ∧ en = x + 1) ∨ (a_operation x = 12 ∧ en = x + 2)) (har : a_operand x = nI c1) (hen : en < 160) :
    ∀ (d i t : Nat) (S : List xm_Fr) (far : Nat) (sil sb : Int32) (dep : Nat) (L : List (Nat × Nat)) (kp lk ac : Nat → Int32), N - i ≤ d → 68 - dep < f → xl_NA tk nx ln c e i → i ≤ N → i ≤ far → far ≤ 17 → (∀ n, xl_H tk nx ln c N n ac) → xl_M tk nx ln c N kp lk → dep = xl_cnt ac 68 → 1 ≤ dep → 1 ≤ S.length → S.length + (nx e - e) ≤ 12 * dep + 1 → t + xl_pot kp ac 68 + pt_D (nx e - e) (16 - i) < 4000001 → L.length ≤ 30 → xm_GG post f_pendingCount f_length f_treeNodes f_emitted f_listing a_pending a_text a_operation a_operand a_opens a_stage a_hole a_treeRule a_treeStart a_treeEnd a_treeDepth t ((en, i, L.length, sb) :: S) c1 i far sil dep L kp lk ac := by
  intro d
  obtain ⟨s1, s2, s3⟩ := pg_C_u hX.1 he (by omega)
  have hN16 := hX.2.1
  have z1 := xl_sz hX.1 _ _ _ _ s1 hl
  have hs48 := pg_C_s hX.1 he
  have em : nx (e + 1) - (e + 1) + 1 = nx e - e := by omega
  induction d with
  | zero =>
    intro i t S far sil sb dep L kp lk ac hd hdf hna hi hif hfar hH hM hdep hd1 hS1 hS ht hL
    have h68 := xl_cnt_le ac 68
    obtain ⟨_, _, _, _, _, t6⟩ := pt_un (b := nx (e + 1) - (e + 1)) (n := 16 - i) (by omega) (by omega) (by omega)
    rw [em] at t6
    by_cases hv : xl_NV tk nx ln c (e + 1) i
    · exact ih (e + 1) i m c1 x t _ far sil dep L kp lk ac (by omega) hdf s1 hl (by omega) hv hi hif hfar hH hM hdep hd1 (Nat.succ_pos _) (by show S.length + 1 + _ ≤ _; omega) (by omega) hL
    · obtain ⟨n, o, w, k, p, hev, ho⟩ := xl_nv_c hv
      obtain ⟨j, rfl, hji, hna'⟩ := xl_na hna hev ho
      have ba := (xl_bd hX s1 hev hi ho).2.2 j rfl
      omega
  | succ d ihd =>
    intro i t S far sil sb dep L kp lk ac hd hdf hna hi hif hfar hH hM hdep hd1 hS1 hS ht hL
    have h68 := xl_cnt_le ac 68
    obtain ⟨_, _, _, _, _, t6⟩ := pt_un (b := nx (e + 1) - (e + 1)) (n := 16 - i) (by omega) (by omega) (by omega)
    rw [em] at t6
    by_cases hv : xl_NV tk nx ln c (e + 1) i
    · exact ih (e + 1) i m c1 x t _ far sil dep L kp lk ac (by omega) hdf s1 hl (by omega) hv hi hif hfar hH hM hdep hd1 (Nat.succ_pos _) (by show S.length + 1 + _ ≤ _; omega) (by omega) hL
    · obtain ⟨n, o, w, k, p, hev, ho⟩ := xl_nv_c hv
      obtain ⟨j, rfl, hji, hna'⟩ := xl_na hna hev ho
      have bw := xl_bd hX s1 hev hi ho
      have ba := bw.2.2 j rfl
      have hk := (xl_kD hX.1 hX.2.2.2.1 hN16 s1 hi hev ho).2 j rfl (by omega)
      have t7 := (pt_rn (b := nx (e + 1) - (e + 1)) (n := 16 - i) (x := 16 - j) (by omega) (by omega) (by omega) (by omega)).2
      rw [em] at t7
      refine ((xl_main hX n).1 n (Nat.le_refl n) (e + 1) i (j + 2) w k p m c1 x t ((en, i, L.length, sb) :: S) far sil dep L kp lk ac false s1 hl (by omega) hev hi hif hfar (hH _) hM hdep hd1 (Nat.succ_pos _) (by show S.length + 1 + _ ≤ _; omega) (by omega) hL ⟨fun y => (nomatch y), fun _ => Or.inl li0⟩).2 j rfl (fun t1 far1 sil1 L1 kp1 lk1 hf1 hL1 ht1 hM1 hs1 => ?_)
      obtain rfl : L1 = L := hL1
      have rest := ihd j (t1 + 1) S far1 sil1 sb dep L1 kp1 lk1 ac (by omega) hdf hna' (by omega) (by omega) (by omega) hH hM1 hdep hd1 hS1 hS (by omega) hL
      rcases hop with ⟨ho, rfl⟩ | ⟨ho, rfl⟩
      · exact xr_7 (by omega) (by omega) ho har (by omega) (by omega) (by omega) (fun y => absurd y.symm hji) (fun _ => rest)
      · exact xr_12 (by omega) (by omega) ho har (by omega) (by omega) (by omega) (fun y => absurd y.symm hji) (fun _ => rest)
theorem xl_lb_s (hX : xl_X f_length a_text a_operation a_operand tk nx ln c N) (li0 : f_listing = 0) (K : ∀ kp' lk', xl_M tk nx ln c N kp' lk' → xm_SK post f_pendingCount f_length f_treeNodes f_emitted f_listing a_pending a_text a_operation a_operand a_opens a_stage a_hole a_treeRule a_treeStart a_treeEnd a_treeDepth kp' lk') {f s : Nat} (ihf : ∀ s', xl_LB post f_pendingCount f_length f_treeNodes f_emitted f_listing a_pending a_text a_operation a_operand a_opens a_stage a_hole a_treeRule a_treeStart a_treeEnd a_treeDepth tk nx ln c N f s') (ih : xl_LB post f_pendingCount f_length f_treeNodes f_emitted f_listing a_pending a_text a_operation a_operand a_opens a_stage a_hole a_treeRule a_treeStart a_treeEnd a_treeDepth tk nx ln c N (f + 1) s) : xl_LB post f_pendingCount f_length f_treeNodes f_emitted f_listing a_pending a_text a_operation a_operand a_opens a_stage a_hole a_treeRule a_treeStart a_treeEnd a_treeDepth tk nx ln c N (f + 1) (s + 1) := by
  intro e i m c1 c2 t S far sil dep L kp lk ac hse hdf he hl h160 hnv hi hif hfar hH hM hdep hd1 hS1 hS ht hL
  have hN16 := hX.2.1
  have h68 := xl_cnt_le ac 68
  have hs48 := pg_C_s hX.1 he
  have hq : ∀ (sil : Int32) (m : Nat), xl_b f_listing dep sil m false := fun _ _ => ⟨fun y => (nomatch y), fun _ => Or.inl li0⟩
  cases m with
  | zero => exact hl.elim
  | succ m =>
    rcases pg_tc (pg_C_v hX.1 he).1 with tt | tt | tt | tt | tt | tt | tt | tt | ⟨r, hr, tt⟩ | tt
    · exact (xl_nv_l (Or.inl tt) hnv).elim
    · -- a sequence
      obtain ⟨s1, s2, s3, s4, s5⟩ := pg_C_b hX.1 he (Or.inl tt)
      obtain ⟨x, l1, l2⟩ := (xl_10 tt).mp hl
      have z1 := xl_sz hX.1 _ _ _ _ s1 l1
      have z2 := xl_sz hX.1 _ _ _ _ s2 l2
      have em : nx (e + 1) - (e + 1) + (nx (nx (e + 1)) - nx (e + 1)) + 1 = nx e - e := by omega
      obtain ⟨_, _, _, t1, t2⟩ := pt_bi (a := nx (e + 1) - (e + 1)) (b := nx (nx (e + 1)) - nx (e + 1)) (n := 16 - i) (by omega) (by omega) (by omega) (by omega)
      rw [em] at t1 t2
      by_cases hv : xl_NV tk nx ln c (e + 1) i
      · exact ih (e + 1) i m c1 x t S far sil dep L kp lk ac (by omega) hdf s1 l1 (by omega) hv hi hif hfar hH hM hdep hd1 hS1 (by omega) (by omega) hL
      · obtain ⟨n, o, w, k, p, hev, ho⟩ := xl_nv_c hv
        obtain ⟨j, rfl, hnv'⟩ := xl_nv_10 tt hnv hev ho
        have bw := xl_bd hX s1 hev hi ho
        have ba := bw.2.2 j rfl
        have hk := xl_kD hX.1 hX.2.2.2.1 hN16 s1 hi hev ho
        have hcost : k + pt_D (nx (nx (e + 1)) - nx (e + 1)) (16 - j) ≤ pt_D (nx e - e) (16 - i) := by
          by_cases y : i < j
          · have h1 := hk.2 j rfl y
            have h2 := pt_bd (a := nx (e + 1) - (e + 1)) (b := nx (nx (e + 1)) - nx (e + 1)) (n := 16 - i) (x := 16 - j) (by omega) (by omega) (by omega) (by omega) (by omega)
            rw [em] at h2
            omega
          · obtain rfl : j = i := by omega
            have h1 := hk.1 (Or.inr rfl)
            omega
        refine ((xl_main hX n).1 n (Nat.le_refl n) (e + 1) i (j + 2) w k p m c1 x t S far sil dep L kp lk ac false s1 l1 (by omega) hev hi hif hfar (hH _) hM hdep hd1 hS1 (by omega) (by omega) hL (hq _ _)).2 j rfl (fun t1 far1 sil1 L1 kp1 lk1 hf1 hL1 ht1 hM1 hs1 => ?_)
        obtain rfl : L1 = L := hL1
        exact ih (nx (e + 1)) j m x c2 t1 S far1 sil1 dep L1 kp1 lk1 ac (by omega) hdf s2 l2 h160 hnv' (by omega) (by omega) (by omega) hH hM1 hdep hd1 hS1 (by omega) (by omega) hL
    · -- a choice
      obtain ⟨s1, s2, s3, s4, s5⟩ := pg_C_b hX.1 he (Or.inr tt)
      obtain ⟨x, g1, g2, l1, g3, g4, l2⟩ := (xl_11 tt).mp hl
      have z1 := xl_sz hX.1 _ _ _ _ s1 l1
      have z2 := xl_sz hX.1 _ _ _ _ s2 l2
      have em : nx (e + 1) - (e + 1) + (nx (nx (e + 1)) - nx (e + 1)) + 1 = nx e - e := by omega
      obtain ⟨_, _, _, t1, t2⟩ := pt_bi (a := nx (e + 1) - (e + 1)) (b := nx (nx (e + 1)) - nx (e + 1)) (n := 16 - i) (by omega) (by omega) (by omega) (by omega)
      rw [em] at t1 t2
      refine xr_5 (by omega) (by omega) g1 g2 (by omega) (by omega) (by omega) ?_
      by_cases hv : xl_NV tk nx ln c (e + 1) i
      · exact ih (e + 1) i m (c1 + 1) x (t + 1) _ far sil dep L kp lk ac (by omega) hdf s1 l1 (by omega) hv hi hif hfar hH hM hdep hd1 (Nat.succ_pos _) (by show S.length + 1 + _ ≤ _; omega) (by omega) hL
      · obtain ⟨n, o, w, k, p, hev, ho⟩ := xl_nv_c hv
        obtain ⟨rfl, hnv'⟩ := xl_nv_11 tt hnv hev ho
        have bw := xl_bd hX s1 hev hi ho
        have hk := (xl_kD hX.1 hX.2.2.2.1 hN16 s1 hi hev ho).1 (Or.inl rfl)
        refine ((xl_main hX n).1 n (Nat.le_refl n) (e + 1) i 1 w k p m (c1 + 1) x (t + 1) ((x + 1, i, L.length, sil.toInt8.toInt32) :: S) far sil dep L kp lk ac false s1 l1 (by omega) hev hi hif hfar (hH _) hM hdep hd1 (Nat.succ_pos _) (by show S.length + 1 + _ ≤ _; omega) (by omega) hL (hq _ _)).1 rfl (fun t1 far1 L1 kp1 lk1 hf1 ht1 hM1 hp1 => ?_)
        refine xf_a (by omega) (by omega) hp1.length_le ?_
        rw [xl_cap hp1]
        exact ih (nx (e + 1)) i m (x + 1) c2 (t1 + 1) S far1 _ dep L kp1 lk1 ac (by omega) hdf s2 l2 h160 hnv' hi (by omega) (by omega) hH hM1 hdep hd1 hS1 (by omega) (by omega) hL
    · -- repetition
      obtain ⟨s1, s2, s3⟩ := pg_C_u hX.1 he (by omega)
      obtain ⟨x, g1, g2, l1, g3, g4, rfl⟩ := (xl_12 tt).mp hl
      have z1 := xl_sz hX.1 _ _ _ _ s1 l1
      refine xr_5 (by omega) (by omega) g1 g2 (by omega) (by omega) (by omega) ?_
      exact xl_lbg hX li0 ih he (Or.inl tt) hse l1 (Or.inl ⟨g3, rfl⟩) g4 h160 _ i (t + 1) S far sil _ dep L kp lk ac (Nat.le_refl _) hdf (xl_nv_12 tt hnv) hi hif hfar hH hM hdep hd1 hS1 hS (by omega) hL
    · obtain ⟨s1, s2, s3⟩ := pg_C_u hX.1 he (by omega)
      obtain ⟨x, g1, g2, l1, g3, g4, g5, rfl⟩ := (xl_13 tt).mp hl
      have z1 := xl_sz hX.1 _ _ _ _ s1 l1
      have em : nx (e + 1) - (e + 1) + 1 = nx e - e := by omega
      obtain ⟨_, _, _, _, _, t6⟩ := pt_un (b := nx (e + 1) - (e + 1)) (n := 16 - i) (by omega) (by omega) (by omega)
      rw [em] at t6
      refine xr_5 (by omega) (by omega) g1 g2 (by omega) (by omega) (by omega) ?_
      by_cases hv : xl_NV tk nx ln c (e + 1) i
      · exact ih (e + 1) i m (c1 + 1) x (t + 1) _ far sil dep L kp lk ac (by omega) hdf s1 l1 (by omega) hv hi hif hfar hH hM hdep hd1 (Nat.succ_pos _) (by show S.length + 1 + _ ≤ _; omega) (by omega) hL
      · obtain ⟨n, o, w, k, p, hev, ho⟩ := xl_nv_c hv
        obtain ⟨j, rfl, hji, hna⟩ := xl_nv_13 tt hnv hev ho
        have bw := xl_bd hX s1 hev hi ho
        have ba := bw.2.2 j rfl
        have hk := (xl_kD hX.1 hX.2.2.2.1 hN16 s1 hi hev ho).2 j rfl (by omega)
        have t7 := (pt_rn (b := nx (e + 1) - (e + 1)) (n := 16 - i) (x := 16 - j) (by omega) (by omega) (by omega) (by omega)).2
        rw [em] at t7
        refine ((xl_main hX n).1 n (Nat.le_refl n) (e + 1) i (j + 2) w k p m (c1 + 1) x (t + 1) ((x + 1, i, L.length, sil.toInt8.toInt32) :: S) far sil dep L kp lk ac false s1 l1 (by omega) hev hi hif hfar (hH _) hM hdep hd1 (Nat.succ_pos _) (by show S.length + 1 + _ ≤ _; omega) (by omega) hL (hq _ _)).2 j rfl (fun t1 far1 sil1 L1 kp1 lk1 hf1 hL1 ht1 hM1 hs1 => ?_)
        obtain rfl : L1 = L := hL1
        refine xr_12 (by omega) (by omega) g3 g4 (by omega) (by omega) (by omega) (fun y => absurd y.symm hji) (fun _ => ?_)
        exact xl_lbg hX li0 ih he (Or.inr tt) hse l1 (Or.inr ⟨g3, rfl⟩) g4 h160 _ j (t1 + 1) S far1 sil1 _ dep L1 kp1 lk1 ac (Nat.le_refl _) hdf hna (by omega) (by omega) (by omega) hH hM1 hdep hd1 hS1 hS (by omega) hL
    · obtain ⟨s1, s2, s3⟩ := pg_C_u hX.1 he (by omega)
      obtain ⟨x, g1, g2, l1, g3, g4, rfl⟩ := (xl_14 tt).mp hl
      have z1 := xl_sz hX.1 _ _ _ _ s1 l1
      have em : nx (e + 1) - (e + 1) + 1 = nx e - e := by omega
      obtain ⟨_, _, _, _, _, t6⟩ := pt_un (b := nx (e + 1) - (e + 1)) (n := 16 - i) (by omega) (by omega) (by omega)
      rw [em] at t6
      refine xr_5 (by omega) (by omega) g1 g2 (by omega) (by omega) (by omega) ?_
      exact ih (e + 1) i m (c1 + 1) x (t + 1) _ far sil dep L kp lk ac (by omega) hdf s1 l1 (by omega) (xl_nv_u (Or.inl tt) hnv) hi hif hfar hH hM hdep hd1 (Nat.succ_pos _) (by show S.length + 1 + _ ≤ _; omega) (by omega) hL
    · obtain ⟨s1, s2, s3⟩ := pg_C_u hX.1 he (by omega)
      obtain ⟨x, g1, g2, l1, g3, g4, g5, rfl⟩ := (xl_15 tt).mp hl
      have z1 := xl_sz hX.1 _ _ _ _ s1 l1
      have em : nx (e + 1) - (e + 1) + 1 = nx e - e := by omega
      obtain ⟨_, _, _, _, _, t6⟩ := pt_un (b := nx (e + 1) - (e + 1)) (n := 16 - i) (by omega) (by omega) (by omega)
      rw [em] at t6
      refine xr_8 (by omega) (by omega) g1 g2 (by omega) (by omega) (by omega) ?_
      exact ih (e + 1) i m (c1 + 1) x (t + 1) _ far _ dep L kp lk ac (by omega) hdf s1 l1 (by omega) (xl_nv_u (Or.inr (Or.inl tt)) hnv) hi hif hfar hH hM hdep hd1 (Nat.succ_pos _) (by show S.length + 1 + _ ≤ _; omega) (by omega) hL
    · obtain ⟨s1, s2, s3⟩ := pg_C_u hX.1 he (by omega)
      obtain ⟨x, g1, g2, l1, g3, rfl⟩ := (xl_16 tt).mp hl
      have z1 := xl_sz hX.1 _ _ _ _ s1 l1
      have em : nx (e + 1) - (e + 1) + 1 = nx e - e := by omega
      obtain ⟨_, _, _, _, _, t6⟩ := pt_un (b := nx (e + 1) - (e + 1)) (n := 16 - i) (by omega) (by omega) (by omega)
      rw [em] at t6
      refine xr_8 (by omega) (by omega) g1 g2 (by omega) (by omega) (by omega) ?_
      exact ih (e + 1) i m (c1 + 1) x (t + 1) _ far _ dep L kp lk ac (by omega) hdf s1 l1 (by omega) (xl_nv_u (Or.inr (Or.inr tt)) hnv) hi hif hfar hH hM hdep hd1 (Nat.succ_pos _) (by show S.length + 1 + _ ≤ _; omega) (by omega) hL
    · -- a call
      obtain ⟨hln, hnv'⟩ := xl_nv_r hr tt hnv
      obtain ⟨g1, g2, rfl⟩ := (xl_c hr tt).mp hl
      obtain ⟨hX0, hX1⟩ := hX.2.2.2.2.2 r hr
      obtain ⟨hX2, m', x', hx160, hx4, hlay⟩ := hX1 hln
      clear hX0 hX1
      obtain ⟨s1, s2, s3⟩ := pg_C_r hX.1 hr hln
      have hnx := (pg_C_v hX.1 he).2.2.2 (by omega)
      have em : nx e - e = 1 := by omega
      have t1 := pt_d1 (n := 16 - i) (by omega)
      rw [em] at ht
      have hk : kp (17 * r + i) = -9 := by
        rcases hM r i hr hi with hk | ⟨o', w', hv, hk, hw⟩
        · exact hk
        · rcases hv with ⟨h, _⟩ | ⟨_, h2, n, k, p, h3⟩
          · exact absurd h hln
          · have := hnv' n
            rw [h3] at this
            exact absurd this h2
      by_cases hac : ac (17 * r + i) = 0
      · have hpe := xl_pot_e hk hac 68 (by omega)
        rw [show (17 * r + i) % 17 = i by omega] at hpe
        have hce := xl_cnt_e hac 68 (by omega)
        have h68' := xl_cnt_le (upd ac (17 * r + i) 1) 68
        have t2 := (pt_t (m := nx (12 * r) - 12 * r) (n := 16 - i) (by omega) (by omega) (by omega)).2.2
        refine xr_ce (by omega) (by omega) g1 g2 hr (by omega) hk hX2 hac (by omega) (by omega) (by omega) ?_
        exact ihf _ (12 * r) i m' (40 * r) x' (t + 1) _ i sil (dep + 1) L kp lk (upd ac (17 * r + i) 1) (Nat.le_refl _) (by omega) s1 hlay hx160 hnv' hi (Nat.le_refl i) (by omega) (fun n => xl_H_e hN16 (hH n) hi (hnv' n)) hM (by omega) (by omega) (Nat.succ_pos _) (by show S.length + 1 + _ ≤ _; omega) (by omega) hL
      · exact xr_cs (by omega) (by omega) g1 g2 hr (by omega) hk hX2 hac (K kp lk hM)
    · exact (xl_nv_l (Or.inr tt) hnv).elim
theorem xl_lb (hX : xl_X f_length a_text a_operation a_operand tk nx ln c N) (li0 : f_listing = 0) (K : ∀ kp' lk', xl_M tk nx ln c N kp' lk' → xm_SK post f_pendingCount f_length f_treeNodes f_emitted f_listing a_pending a_text a_operation a_operand a_opens a_stage a_hole a_treeRule a_treeStart a_treeEnd a_treeDepth kp' lk') : ∀ f s, xl_LB post f_pendingCount f_length f_treeNodes f_emitted f_listing a_pending a_text a_operation a_operand a_opens a_stage a_hole a_treeRule a_treeStart a_treeEnd a_treeDepth tk nx ln c N f s := by
  intro f
  induction f with
  | zero =>
    intro s e i m c1 c2 t S far sil dep L kp lk ac hse hdf
    omega
  | succ f ihf =>
    intro s
    induction s with
    | zero =>
      intro e i m c1 c2 t S far sil dep L kp lk ac hse hdf he
      have := (pg_C_v hX.1 he).2.1
      omega
    | succ s ih => exact xl_lb_s hX li0 K ihf ih
end
end
section
/-! a whole run -/
section
variable {P : SX → Prop} {f_pendingCount f_length f_sp f_pc f_at f_far f_silence f_depth f_count f_treeNodes f_emitted f_listing f_stuck : Int32} {a_pending a_text a_operation a_operand a_opens a_stage a_hole a_kept a_looked a_active a_goOn a_where a_third a_fourth a_treeRule a_treeStart a_treeEnd a_treeDepth a_part a_partEnd : Nat → Int32}
theorem xp_prep_l {p0 p1 : Int32} (hp : p1 = 0 ∨ p1 = 1) (k : ∀ ac : Nat → Int32, (∀ q, q < 68 → ac q = 0) → P (f_pendingCount, f_length, 0, (-1), p0, p0, 0, 0, 0, f_treeNodes, f_emitted, p1, 0, a_pending, a_text, a_operation, a_operand, a_opens, a_stage, a_hole, a_kept, a_looked, ac, a_goOn, a_where, a_third, a_fourth, a_treeRule, a_treeStart, a_treeEnd, a_treeDepth, a_part, a_partEnd)) :
    ∀ (d i : Nat) (ac : Nat → Int32), i + d = 68 → (∀ q, q < i → ac q = 0) → wX_prepare_2 P p0 p1 f_pendingCount f_length f_sp f_pc f_at f_far f_silence f_depth f_count f_treeNodes f_emitted f_listing f_stuck (d + 1) (nI i) a_pending a_text a_operation a_operand a_opens a_stage a_hole a_kept a_looked ac a_goOn a_where a_third a_fourth a_treeRule a_treeStart a_treeEnd a_treeDepth a_part a_partEnd := by
  intro d
  induction d with
  | zero =>
    intro i ac hi hq
    obtain rfl : i = 68 := by omega
    refine br_t (by decide) ?_
    rcases hp with rfl | rfl
    · exact And.intro rfl (And.intro rfl (k ac hq))
    · exact And.intro rfl (And.intro rfl (k ac hq))
  | succ d ih =>
    intro i ac hi hq
    refine br_f (nI_ge (b := 68) (by omega) (by decide)) (And.intro (xb_in (by omega) (by omega)) (nm_r (e' := upd ac i 0) (by rw [xb_c (by omega)]; rfl) (nm_r (nI_1 i) (ih (i + 1) (upd ac i 0) (by omega) (fun q hq' => ?_)))))
    by_cases z : q = i
    · subst z; exact pk_us
    · rw [pk_un z]; exact hq q (by omega)
theorem xp_prep {p0 p1 : Int32} (hp : p1 = 0 ∨ p1 = 1) (k : ∀ ac : Nat → Int32, (∀ q, q < 68 → ac q = 0) → P (f_pendingCount, f_length, 0, (-1), p0, p0, 0, 0, 0, f_treeNodes, f_emitted, p1, 0, a_pending, a_text, a_operation, a_operand, a_opens, a_stage, a_hole, a_kept, a_looked, ac, a_goOn, a_where, a_third, a_fourth, a_treeRule, a_treeStart, a_treeEnd, a_treeDepth, a_part, a_partEnd)) : wpX_prepare P (f_pendingCount, f_length, f_sp, f_pc, f_at, f_far, f_silence, f_depth, f_count, f_treeNodes, f_emitted, f_listing, f_stuck, a_pending, a_text, a_operation, a_operand, a_opens, a_stage, a_hole, a_kept, a_looked, a_active, a_goOn, a_where, a_third, a_fourth, a_treeRule, a_treeStart, a_treeEnd, a_treeDepth, a_part, a_partEnd) p0 p1 :=
  ⟨69, xp_prep_l hp k 68 0 a_active rfl (fun q h => absurd h (by omega))⟩
theorem xp_f0 (k : P (f_pendingCount, f_length, 0, (-1), f_at, f_far, f_silence, f_depth, f_count, f_treeNodes, f_emitted, f_listing, f_stuck, a_pending, a_text, a_operation, a_operand, a_opens, a_stage, a_hole, a_kept, a_looked, a_active, a_goOn, a_where, a_third, a_fourth, a_treeRule, a_treeStart, a_treeEnd, a_treeDepth, a_part, a_partEnd)) : wpX_fail P (f_pendingCount, f_length, 0, f_pc, f_at, f_far, f_silence, f_depth, f_count, f_treeNodes, f_emitted, f_listing, f_stuck, a_pending, a_text, a_operation, a_operand, a_opens, a_stage, a_hole, a_kept, a_looked, a_active, a_goOn, a_where, a_third, a_fourth, a_treeRule, a_treeStart, a_treeEnd, a_treeDepth, a_part, a_partEnd) := ⟨1, br_t (by decide) (br_t rfl k)⟩
theorem xp_g0 (k : P (f_pendingCount, f_length, f_sp, (-1), f_at, f_far, f_silence, f_depth, f_count, f_treeNodes, f_emitted, f_listing, f_stuck, a_pending, a_text, a_operation, a_operand, a_opens, a_stage, a_hole, a_kept, a_looked, a_active, a_goOn, a_where, a_third, a_fourth, a_treeRule, a_treeStart, a_treeEnd, a_treeDepth, a_part, a_partEnd)) : wpX_go P (f_pendingCount, f_length, f_sp, (-1), f_at, f_far, f_silence, f_depth, f_count, f_treeNodes, f_emitted, f_listing, f_stuck, a_pending, a_text, a_operation, a_operand, a_opens, a_stage, a_hole, a_kept, a_looked, a_active, a_goOn, a_where, a_third, a_fourth, a_treeRule, a_treeStart, a_treeEnd, a_treeDepth, a_part, a_partEnd) := ⟨1, br_c (fun _ => k) (fun _ => br_t (by decide) k)⟩
end
section
variable {post : SX → Prop} {f_pendingCount f_length f_treeNodes f_emitted f_listing : Int32} {a_pending a_text a_operation a_operand a_opens a_stage a_hole a_treeRule a_treeStart a_treeEnd a_treeDepth : Nat → Int32}
variable {tk nx ln c : Nat → Nat} {N : Nat}
theorem xl_c0 {ac : Nat → Int32} (h : ∀ q, q < 68 → ac q = 0) : xl_cnt ac 68 = 0 := by
  rw [xl_cnt_o (ac := fun _ => 0) 68 (fun q hq => h q hq), xl_cnt_0]
theorem xl_root (hX : xl_X f_length a_text a_operation a_operand tk nx ln c N) {r i o w k ρ : Nat} {p : List (Nat × Nat)} {kp lk ac : Nat → Int32} (hr : r < 4) (hln : ln r ≠ 0) (hi : i ≤ N) (hev : (pg_ev tk nx ln c ρ).1 (12 * r) i = (o, w, k, p)) (ho : o ≠ 0)
    (hac : ∀ q, q < 68 → ac q = 0) (hM : xl_M tk nx ln c N kp lk) (b : Bool) (hb : b = true → f_listing ≠ 0) (hb' : b = false → f_listing = 0)
    (K : ∀ (kp' lk' ac' : Nat → Int32) (L' : List (Nat × Nat)), xl_M tk nx ln c N kp' lk' → kp' (17 * r + i) = xl_en o → (2 ≤ o → L' = xl_ap b [] p) → xm_EN post f_pendingCount f_length f_treeNodes f_emitted f_listing a_pending a_text a_operation a_operand a_opens a_stage a_hole a_treeRule a_treeStart a_treeEnd a_treeDepth L' kp' lk' ac') :
    xm_GG post f_pendingCount f_length f_treeNodes f_emitted f_listing a_pending a_text a_operation a_operand a_opens a_stage a_hole a_treeRule a_treeStart a_treeEnd a_treeDepth 0 [(1000, 17 * r + i, i, nI 0)] (40 * r) i i 0 1 [] kp lk (upd ac (17 * r + i) 1) := by
  have hN16 := hX.2.1
  obtain ⟨hX2, m', x', hx160, hx4, hlay⟩ := (hX.2.2.2.2.2 r hr).2 hln
  obtain ⟨s1, s2, s3⟩ := pg_C_r hX.1 hr hln
  obtain ⟨ρ', hρ', e1, e2⟩ := pg_ev_least (tk := tk) (nx := nx) (ln := ln) (c := c) (n := ρ) (e := 12 * r) (i := i) (by rw [hev]; exact ho)
  rw [hev] at e1
  have hkT := xl_kT hX.1 hX.2.2.2.1 hN16 hr hln hi hev ho
  have hT : pt_T (16 - i) ≤ 60674 := by
    have h : ((List.range 17).all fun n => (List.range 1).all fun _ => decide (pt_T n ≤ 60674)) = true := by decide +kernel
    exact of_decide_eq_true (pt_x2 (b := 0) h (show 16 - i < 17 by omega) (by omega))
  have hpot := xl_pot_le kp (upd ac (17 * r + i) 1) 68
  rw [xl_tot_68] at hpot
  have hc0 := xl_c0 hac
  have hce := xl_cnt_e (hac (17 * r + i) (by omega)) 68 (by omega)
  have ba := xl_bd hX s1 hev hi ho
  have la : xl_LA post f_pendingCount f_length f_treeNodes f_emitted f_listing a_pending a_text a_operation a_operand a_opens a_stage a_hole a_treeRule a_treeStart a_treeEnd a_treeDepth tk nx ln c N (ρ' + 1) := (xl_main hX (ρ' + 1)).1 (ρ' + 1) (Nat.le_refl _)
  have frame := la (12 * r) i o w k p m' (40 * r) x' 0 [(1000, 17 * r + i, i, nI 0)] i 0 1 [] kp lk (upd ac (17 * r + i) 1) b s1 hlay hx160 e1 hi (Nat.le_refl i) (by omega)
    (xl_H_e hN16 (fun r' j hr' hj h => absurd (hac _ (by omega)) h) hi e2) hM (by omega) (by omega) (Nat.le_refl 1) (by show 1 + _ ≤ _; omega) (by omega) (Nat.zero_le 30) ⟨fun y => ⟨hb y, rfl, rfl⟩, fun y => Or.inl (hb' y)⟩
  by_cases z : o = 1
  · refine frame.1 z (fun t1 far1 L1 kp1 lk1 hf1 ht1 hM1 hp1 => ?_)
    subst z
    refine xf_c (by omega) (by omega) (Nat.zero_lt_succ _) (by omega) (by omega) (by omega) (xf_n (by omega) (K _ _ _ L1 ?_ pk_us (fun y => absurd y (by omega))))
    obtain rfl : far1 = w := by omega
    exact xl_M_u (o := 1) hN16 hM1 hi (Or.inr ⟨hln, by omega, ρ, k, p, hev⟩)
  · obtain ⟨j, rfl⟩ : ∃ j, o = j + 2 := ⟨o - 2, by omega⟩
    have b3 := ba.2.2 j rfl
    refine frame.2 j rfl (fun t1 far1 sil1 L1 kp1 lk1 hf1 hL1 ht1 hM1 hs1 => ?_)
    obtain rfl : far1 = w := by omega
    refine xr_4e (by omega) hx160 hx4 (by omega) (by omega) (by omega) (by omega) (by decide) (by decide) (K _ _ _ L1 ?_ ?_ (fun _ => hL1))
    · exact xl_M_u (o := j + 2) hN16 hM1 hi (Or.inr ⟨hln, by omega, ρ, k, p, hev⟩)
    · rw [pk_us]; rfl
theorem xl_root_n (hX : xl_X f_length a_text a_operation a_operand tk nx ln c N) {r i : Nat} {kp lk ac : Nat → Int32} (hr : r < 4) (hln : ln r ≠ 0) (hi : i ≤ N) (hnv : xl_NV tk nx ln c (12 * r) i)
    (hac : ∀ q, q < 68 → ac q = 0) (hM : xl_M tk nx ln c N kp lk) (li0 : f_listing = 0)
    (K : ∀ (kp' lk' : Nat → Int32), xl_M tk nx ln c N kp' lk' → xm_SK post f_pendingCount f_length f_treeNodes f_emitted f_listing a_pending a_text a_operation a_operand a_opens a_stage a_hole a_treeRule a_treeStart a_treeEnd a_treeDepth kp' lk') :
    xm_GG post f_pendingCount f_length f_treeNodes f_emitted f_listing a_pending a_text a_operation a_operand a_opens a_stage a_hole a_treeRule a_treeStart a_treeEnd a_treeDepth 0 [(1000, 17 * r + i, i, nI 0)] (40 * r) i i 0 1 [] kp lk (upd ac (17 * r + i) 1) := by
  have hN16 := hX.2.1
  obtain ⟨hX2, m', x', hx160, hx4, hlay⟩ := (hX.2.2.2.2.2 r hr).2 hln
  obtain ⟨s1, s2, s3⟩ := pg_C_r hX.1 hr hln
  have hT : pt_T (16 - i) ≤ 60674 := by
    have h : ((List.range 17).all fun n => (List.range 1).all fun _ => decide (pt_T n ≤ 60674)) = true := by decide +kernel
    exact of_decide_eq_true (pt_x2 (b := 0) h (show 16 - i < 17 by omega) (by omega))
  have t2 := (pt_t (m := nx (12 * r) - 12 * r) (n := 16 - i) (by omega) (by omega) (by omega)).2.2
  have hpot := xl_pot_le kp (upd ac (17 * r + i) 1) 68
  rw [xl_tot_68] at hpot
  have hc0 := xl_c0 hac
  have hce := xl_cnt_e (hac (17 * r + i) (by omega)) 68 (by omega)
  exact xl_lb hX li0 K 68 _ (12 * r) i m' (40 * r) x' 0 _ i 0 1 [] kp lk (upd ac (17 * r + i) 1) (Nat.le_refl _) (by omega) s1 hlay hx160 hnv hi (Nat.le_refl i) (by omega) (fun n => xl_H_e hN16 (fun r' j hr' hj h => absurd (hac _ (by omega)) h) hi (hnv n)) hM (by omega) (by omega) (Nat.le_refl 1) (by show 1 + _ ≤ _; omega) (by omega) (Nat.zero_le 30)
end
/-- what a run leaves: everything but the machine's own fields -/
def xl_RQ (Q : Int32 → SX → Prop) (f_pendingCount f_length f_treeNodes f_emitted : Int32) (a_pending a_text a_operation a_operand a_opens a_stage a_hole a_treeRule a_treeStart a_treeEnd a_treeDepth : Nat → Int32) (r : Int32) (kp lk : Nat → Int32) : Prop :=
  ∀ (f_sp f_pc f_at f_far f_silence f_depth f_count f_listing f_stuck : Int32) (a_active a_goOn a_where a_third a_fourth a_part a_partEnd : Nat → Int32), Q r (f_pendingCount, f_length, f_sp, f_pc, f_at, f_far, f_silence, f_depth, f_count, f_treeNodes, f_emitted, f_listing, f_stuck, a_pending, a_text, a_operation, a_operand, a_opens, a_stage, a_hole, kp, lk, a_active, a_goOn, a_where, a_third, a_fourth, a_treeRule, a_treeStart, a_treeEnd, a_treeDepth, a_part, a_partEnd)
section
variable {Q : Int32 → SX → Prop} {f_pendingCount f_length f_sp f_pc f_at f_far f_silence f_depth f_count f_treeNodes f_emitted f_listing f_stuck : Int32} {a_pending a_text a_operation a_operand a_opens a_stage a_hole a_kept a_looked a_active a_goOn a_where a_third a_fourth a_treeRule a_treeStart a_treeEnd a_treeDepth a_part a_partEnd : Nat → Int32} {tk nx ln c : Nat → Nat} {N : Nat}
theorem xp_q' {r i : Nat} (hr : r < 4) (hi : i ≤ 16) : vp_in (nI r * 17 + nI i) 68 ∧ (nI r * 17 + nI i).toNatClampNeg = 17 * r + i := by
  rw [xp_q]
  exact ⟨xb_in (by omega) (by omega), xb_c (by omega)⟩
theorem xp_run_v (hX : xl_X f_length a_text a_operation a_operand tk nx ln c N) {r i o w : Nat} (hr : r < 4) (hi : i ≤ N) (hv : xl_V tk nx ln c r i o w) (hM : xl_M tk nx ln c N a_kept a_looked)
    (K : ∀ kp' lk', xl_M tk nx ln c N kp' lk' → kp' (17 * r + i) = xl_en o → xl_RQ Q f_pendingCount f_length f_treeNodes f_emitted a_pending a_text a_operation a_operand a_opens a_stage a_hole a_treeRule a_treeStart a_treeEnd a_treeDepth (xl_en o) kp' lk') : wpX_run Q (f_pendingCount, f_length, f_sp, f_pc, f_at, f_far, f_silence, f_depth, f_count, f_treeNodes, f_emitted, f_listing, f_stuck, a_pending, a_text, a_operation, a_operand, a_opens, a_stage, a_hole, a_kept, a_looked, a_active, a_goOn, a_where, a_third, a_fourth, a_treeRule, a_treeStart, a_treeEnd, a_treeDepth, a_part, a_partEnd) (nI r) (nI i) := by
  have hN16 := hX.2.1
  obtain ⟨iq, eq⟩ := xp_q' hr (show i ≤ 16 by omega)
  refine xp_prep (Or.inl rfl) (fun ac hac => ?_)
  rcases hM r i hr hi with hk | ⟨o', w', hv', hk, hw⟩
  · rcases hv with ⟨hln, rfl, rfl⟩ | ⟨hln, ho, n, k, p, hev⟩
    · refine xp_call_u hr (by omega) hk ((hX.2.2.2.2.2 r hr).1 hln) (fun P' hP' => xp_f0 (hP' _ (br_t rfl (xp_g0 (br_t rfl (And.intro iq ?_))))))
      rw [eq, pk_us]
      exact K _ _ (xl_M_u (o := 1) hN16 hM hi (Or.inl ⟨hln, rfl, rfl⟩)) pk_us _ _ _ _ _ _ _ _ _ _ _ _ _ _ _ _
    · refine xp_call_e (sp := 0) (dep := 0) (a := 1000) hr (by omega) hk ((hX.2.2.2.2.2 r hr).2 hln).1 (hac _ (by omega)) (by omega) (by decide) (by omega) (by omega) (by omega) (br_f (by decide) ?_)
      refine ⟨4000001, xl_root hX hr hln hi hev ho hac hM false (fun y => (nomatch y)) (fun _ => rfl) (fun kp' lk' ac' L' hM' hk' _ => ?_) _ _ _ _ _ _ 4000001 (xm_S_p (S := []) trivial) ⟨by decide, fun x y h => absurd h (by simp)⟩ (by omega)⟩
      intro ps far sil dep g w th fo pa pe _
      refine br_t rfl (And.intro iq ?_)
      rw [eq, hk']
      exact K kp' lk' hM' hk' _ _ _ _ _ _ _ _ _ _ _ _ _ _ _ _
  · have hoo : o' = o := by
      rcases hv with ⟨hln, rfl, rfl⟩ | ⟨hln, ho, n, k, p, hev⟩
      · rcases hv' with ⟨_, rfl, _⟩ | ⟨h, _⟩
        · rfl
        · exact absurd hln h
      · exact (xl_V_u hv' hln hev ho).1
    subst hoo
    have hb : w' ≤ 17 ∧ o' ≠ 0 ∧ o' ≤ 18 := by
      rcases hv' with ⟨hln, rfl, rfl⟩ | ⟨hln, ho, n, k, p, hev⟩
      · exact ⟨by omega, by omega, by omega⟩
      · have := xl_bd hX (pg_C_r hX.1 hr hln).1 hev hi ho
        refine ⟨by omega, ho, ?_⟩
        by_cases z : o' = 1
        · omega
        · have := this.2.2 (o' - 2) (by omega)
          omega
    by_cases z : o' = 1
    · subst z
      refine xp_call_0 hr (by omega) (by omega) hb.1 hk hw (fun P' hP' => xp_f0 (hP' _ (br_t rfl (xp_g0 (br_t rfl (And.intro iq ?_))))))
      rw [eq, hk]
      exact K _ _ hM hk _ _ _ _ _ _ _ _ _ _ _ _ _ _ _ _
    · have ho' : xl_en o' = nI (o' - 2) := if_neg z
      refine xp_call_1 (L := []) (j := o' - 2) (pc := 0) (dep := 0) hr (by omega) (by omega) hb.1 (by omega) (by omega) (hk.trans ho') hw ⟨by decide, fun x y h => absurd h (by simp)⟩ false (fun y => (nomatch y)) (fun _ => Or.inl rfl) (by decide) (fun pa pe _ => br_t rfl (xp_g0 (br_t rfl (And.intro iq ?_))))
      rw [eq, hk]
      exact K _ _ hM hk _ _ _ _ _ _ _ _ _ _ _ _ _ _ _ _
theorem xp_run_n (hX : xl_X f_length a_text a_operation a_operand tk nx ln c N) {r i : Nat} (hr : r < 4) (hi : i ≤ N) (hln : ln r ≠ 0) (hnv : xl_NV tk nx ln c (12 * r) i) (hM : xl_M tk nx ln c N a_kept a_looked)
    (K : ∀ kp' lk', xl_M tk nx ln c N kp' lk' → xl_RQ Q f_pendingCount f_length f_treeNodes f_emitted a_pending a_text a_operation a_operand a_opens a_stage a_hole a_treeRule a_treeStart a_treeEnd a_treeDepth (-3) kp' lk') : wpX_run Q (f_pendingCount, f_length, f_sp, f_pc, f_at, f_far, f_silence, f_depth, f_count, f_treeNodes, f_emitted, f_listing, f_stuck, a_pending, a_text, a_operation, a_operand, a_opens, a_stage, a_hole, a_kept, a_looked, a_active, a_goOn, a_where, a_third, a_fourth, a_treeRule, a_treeStart, a_treeEnd, a_treeDepth, a_part, a_partEnd) (nI r) (nI i) := by
  have hN16 := hX.2.1
  refine xp_prep (Or.inl rfl) (fun ac hac => ?_)
  have hk : a_kept (17 * r + i) = -9 := by
    rcases hM r i hr hi with hk | ⟨o', w', hv, hk, hw⟩
    · exact hk
    · rcases hv with ⟨h, _⟩ | ⟨_, h2, n, k, p, h3⟩
      · exact absurd h hln
      · have := hnv n
        rw [h3] at this
        exact absurd this h2
  refine xp_call_e (sp := 0) (dep := 0) (a := 1000) hr (by omega) hk ((hX.2.2.2.2.2 r hr).2 hln).1 (hac _ (by omega)) (by omega) (by decide) (by omega) (by omega) (by omega) (br_f (by decide) ?_)
  refine ⟨4000001, xl_root_n hX hr hln hi hnv hac hM rfl (fun kp' lk' hM' => ?_) _ _ _ _ _ _ 4000001 (xm_S_p (S := []) trivial) ⟨by decide, fun x y h => absurd h (by simp)⟩ (by omega)⟩
  intro sp pc ps far sil dep cn ac' g w th fo pa pe
  exact br_f (by decide) (K kp' lk' hM' _ _ _ _ _ _ _ _ _ _ _ _ _ _ _ _)
end
end
section
/-! the tree, purely: first nodes in order -/
def tr_pre (ch : Nat → List (Nat × Nat)) : Nat → Nat → Nat × Nat → List (Nat × Nat × Nat)
  | 0, _, _ => []
  | n + 1, d, x => (x.1, x.2, d) :: (ch x.1).flatMap (tr_pre ch n (d + 1))
noncomputable def tr_ch (tk nx ln c : Nat → Nat) (q : Nat) : List (Nat × Nat) := (pg_lD tk nx ln c (12 * (q / 17)) (q % 17)).2.2.2
/-- a node of rank n -/
def tr_ok (tk nx ln c : Nat → Nat) (N n : Nat) (x : Nat × Nat) : Prop := ∃ r i, r < 4 ∧ i ≤ N ∧ ln r ≠ 0 ∧ x.1 = 17 * r + i ∧ ((pg_ev tk nx ln c n).1 (12 * r) i).1 = x.2 + 2
section
variable {tk nx ln c : Nat → Nat} {N : Nat}
theorem tr_ok_m {n m : Nat} {x : Nat × Nat} (h : tr_ok tk nx ln c N n x) (hm : n ≤ m) : tr_ok tk nx ln c N m x := by
  obtain ⟨r, i, h1, h2, h3, h4, h5⟩ := h
  exact ⟨r, i, h1, h2, h3, h4, by rw [pg_ev_D hm (by omega)]; exact h5⟩
def tr_po (tk nx ln c : Nat → Nat) (N n : Nat) (r : pg_R) : Prop := r.1 ≠ 0 → ∀ x ∈ r.2.2.2, tr_ok tk nx ln c N n x
theorem tr_sq {n : Nat} {a : pg_R} {f : Nat → pg_R} (ha : tr_po tk nx ln c N n a) (hf : ∀ j, a.1 = j + 2 → tr_po tk nx ln c N n (f j)) : tr_po tk nx ln c N n (pg_sq a f) := by
  intro hz x hx
  rcases a with ⟨_ | _ | j, w, k, p⟩
  · exact absurd rfl hz
  · exact absurd hx (by show ¬ x ∈ []; simp)
  · have hx' : x ∈ p ++ (f j).2.2.2 := hx
    rcases List.mem_append.mp hx' with y | y
    · exact ha (by simp) x y
    · exact hf j rfl hz x y
theorem tr_ag {n i : Nat} {a : pg_R} {f : Nat → pg_R} (ha : tr_po tk nx ln c N n a) (hf : ∀ j, a.1 = j + 2 → tr_po tk nx ln c N n (f j)) : tr_po tk nx ln c N n (pg_ag i a f) ∧ tr_po tk nx ln c N n (pg_pl i a f) := by
  rcases a with ⟨_ | _ | j, w, k, p⟩
  · exact ⟨fun hz => absurd rfl hz, fun hz => absurd rfl hz⟩
  · exact ⟨fun _ x hx => absurd hx (by show ¬ x ∈ []; simp), fun _ x hx => absurd hx (by show ¬ x ∈ []; simp)⟩
  · by_cases hj : j = i
    · simp only [pg_ag, pg_pl, if_pos hj]
      exact ⟨fun _ x hx => ha (by simp) x hx, fun _ x hx => ha (by simp) x hx⟩
    · simp only [pg_ag, pg_pl, if_neg hj]
      have key : (f j).1 ≠ 0 → ∀ x ∈ p ++ (f j).2.2.2, tr_ok tk nx ln c N n x := by
        intro hz x hx
        rcases List.mem_append.mp hx with y | y
        · exact ha (by simp) x y
        · exact hf j rfl hz x y
      exact ⟨key, key⟩
theorem tr_parts (hG : pg_G tk nx ln) (hN : ∀ x, N ≤ x → c x = 0) (n : Nat) : ∀ e i, pg_C nx ln e → i ≤ N → tr_po tk nx ln c N n ((pg_ev tk nx ln c (n + 1)).1 e i) ∧ ((tk e = 12 ∨ tk e = 13) → tr_po tk nx ln c N n ((pg_ev tk nx ln c (n + 1)).2 e i)) := by
  have low : ∀ n, (∀ e i, pg_C nx ln e → i ≤ N → tr_po tk nx ln c N n ((pg_ev tk nx ln c n).1 e i) ∧ ((tk e = 12 ∨ tk e = 13) → tr_po tk nx ln c N n ((pg_ev tk nx ln c n).2 e i))) →
      ∀ e i, pg_C nx ln e → i ≤ N → tr_po tk nx ln c N n ((pg_ev tk nx ln c (n + 1)).1 e i) ∧ ((tk e = 12 ∨ tk e = 13) → tr_po tk nx ln c N n ((pg_ev tk nx ln c (n + 1)).2 e i)) := by
    intro n ih e i he hi
    constructor
    · show tr_po tk nx ln c N n (pg_D tk nx ln c (pg_ev tk nx ln c n).1 (pg_ev tk nx ln c n).2 e i)
      rcases pg_tc (pg_C_v hG he).1 with t | t | t | t | t | t | t | t | ⟨r, hr, t⟩ | t
      · rw [pg_D_2 t]
        exact fun _ x hx => absurd hx (by show ¬ x ∈ []; simp)
      · rw [pg_D_10 t]
        obtain ⟨s1, s2, _⟩ := pg_C_b hG he (Or.inl t)
        refine tr_sq (ih _ _ s1 hi).1 (fun j hj => (ih _ _ s2 ?_).1)
        have := (pg_bd hG hN n _ _ s1 hi).1 (by omega)
        have := this.2.2 (by omega)
        omega
      · rw [pg_D_11 t]
        obtain ⟨s1, s2, _⟩ := pg_C_b hG he (Or.inr t)
        have h1 := (ih _ _ s1 hi).1
        have h2 := (ih _ _ s2 hi).1
        revert h1
        rcases (pg_ev tk nx ln c n).1 (e + 1) i with ⟨_ | _ | j, w, k, p⟩ <;> intro h1 hz x hx
        · exact absurd rfl hz
        · exact h2 hz x hx
        · exact h1 (by simp) x hx
      · rw [pg_D_12 t]
        exact (ih _ _ he hi).2 (Or.inl t)
      · rw [pg_D_13 t]
        obtain ⟨s1, _⟩ := pg_C_u hG he (by omega)
        refine (tr_ag (ih _ _ s1 hi).1 (fun j hj => (ih _ _ he ?_).2 (Or.inr t))).2
        have := (pg_bd hG hN n _ _ s1 hi).1 (by omega)
        have := this.2.2 (by omega)
        omega
      · rw [pg_D_14 t]
        obtain ⟨s1, _⟩ := pg_C_u hG he (by omega)
        have h1 := (ih _ _ s1 hi).1
        revert h1
        rcases (pg_ev tk nx ln c n).1 (e + 1) i with ⟨_ | _ | j, w, k, p⟩ <;> intro h1 hz x hx
        · exact absurd rfl hz
        · exact absurd hx (by show ¬ x ∈ []; simp)
        · exact h1 (by simp) x hx
      · rw [pg_D_15 t]
        rcases (pg_ev tk nx ln c n).1 (e + 1) i with ⟨_ | _ | j, w, k, p⟩ <;> intro hz x hx
        · exact absurd rfl hz
        · exact absurd hx (by show ¬ x ∈ []; simp)
        · exact absurd hx (by show ¬ x ∈ []; simp)
      · rw [pg_D_16 t]
        rcases (pg_ev tk nx ln c n).1 (e + 1) i with ⟨_ | _ | j, w, k, p⟩ <;> intro hz x hx
        · exact absurd rfl hz
        · exact absurd hx (by show ¬ x ∈ []; simp)
        · exact absurd hx (by show ¬ x ∈ []; simp)
      · rw [pg_D_c hr t]
        by_cases hl : ln r = 0
        · rw [if_pos hl]
          exact fun _ x hx => absurd hx (by show ¬ x ∈ []; simp)
        · rw [if_neg hl]
          rcases ha : (pg_ev tk nx ln c n).1 (12 * r) i with ⟨_ | _ | j, w, k, p⟩ <;> intro hz x hx
          · exact absurd rfl hz
          · exact absurd hx (by show ¬ x ∈ []; simp)
          · have hx' : x ∈ [(17 * r + i, j)] := hx
            rw [List.mem_singleton] at hx'
            subst hx'
            exact ⟨r, i, hr, hi, hl, rfl, by rw [ha]⟩
      · rw [pg_D_l t]
        unfold pg_le
        intro _ x hx
        split at hx <;> exact absurd hx (by show ¬ x ∈ []; simp)
    · intro t
      obtain ⟨s1, _⟩ := pg_C_u hG he (by omega)
      refine (tr_ag (ih _ _ s1 hi).1 (fun j hj => (ih _ _ he ?_).2 t)).1
      have := (pg_bd hG hN n _ _ s1 hi).1 (by omega)
      have := this.2.2 (by omega)
      omega
  induction n with
  | zero => exact low 0 (fun e i _ _ => ⟨fun h => absurd rfl h, fun _ h => absurd rfl h⟩)
  | succ n ih =>
    refine low (n + 1) (fun e i he hi => ?_)
    obtain ⟨h1, h2⟩ := ih e i he hi
    exact ⟨fun hz x hx => tr_ok_m (h1 hz x hx) (Nat.le_succ n), fun t hz x hx => tr_ok_m (h2 t hz x hx) (Nat.le_succ n)⟩
theorem tr_ch_of {n r i : Nat} (hi : i ≤ 16) (h : ((pg_ev tk nx ln c n).1 (12 * r) i).1 ≠ 0) : tr_ch tk nx ln c (17 * r + i) = ((pg_ev tk nx ln c n).1 (12 * r) i).2.2.2 := by
  unfold tr_ch
  rw [show (17 * r + i) / 17 = r by omega, show (17 * r + i) % 17 = i by omega, pg_lD_of h]
theorem tr_kids (hG : pg_G tk nx ln) (hN : ∀ x, N ≤ x → c x = 0) (hN16 : N ≤ 16) {n : Nat} {x : Nat × Nat} (h : tr_ok tk nx ln c N (n + 1) x) : ∀ y ∈ tr_ch tk nx ln c x.1, tr_ok tk nx ln c N n y := by
  obtain ⟨r, i, h1, h2, h3, h4, h5⟩ := h
  rw [h4, tr_ch_of (n := n + 1) (by omega) (by omega)]
  exact (tr_parts hG hN n _ i (pg_C_r hG h1 h3).1 h2).1 (by omega)
theorem tr_stab (hG : pg_G tk nx ln) (hN : ∀ x, N ≤ x → c x = 0) (hN16 : N ≤ 16) : ∀ (ρ : Nat) (x : Nat × Nat) (d n m : Nat), tr_ok tk nx ln c N ρ x → ρ ≤ n → ρ ≤ m → tr_pre (tr_ch tk nx ln c) n d x = tr_pre (tr_ch tk nx ln c) m d x := by
  intro ρ
  induction ρ with
  | zero =>
    intro x d n m h
    obtain ⟨r, i, _, _, _, _, h5⟩ := h
    exact absurd h5 (by show ¬ 0 = x.2 + 2; omega)
  | succ ρ ih =>
    intro x d n m h hn hm
    obtain ⟨n, rfl⟩ : ∃ q, n = q + 1 := ⟨n - 1, by omega⟩
    obtain ⟨m, rfl⟩ : ∃ q, m = q + 1 := ⟨m - 1, by omega⟩
    have hk := tr_kids hG hN hN16 h
    show (x.1, x.2, d) :: (tr_ch tk nx ln c x.1).flatMap (tr_pre (tr_ch tk nx ln c) n (d + 1)) = (x.1, x.2, d) :: (tr_ch tk nx ln c x.1).flatMap (tr_pre (tr_ch tk nx ln c) m (d + 1))
    congr 1
    rw [List.flatMap_def, List.flatMap_def]
    congr 1
    exact List.map_congr_left (fun y hy => ih y (d + 1) n m (hk y hy) (by omega) (by omega))
theorem tr_eq (hG : pg_G tk nx ln) (hN : ∀ x, N ≤ x → c x = 0) (hN16 : N ≤ 16) {M : Nat} (d : Nat) (x : Nat × Nat) (h : tr_ok tk nx ln c N M x) : tr_pre (tr_ch tk nx ln c) M d x = (x.1, x.2, d) :: (tr_ch tk nx ln c x.1).flatMap (tr_pre (tr_ch tk nx ln c) M (d + 1)) := by
  cases M with
  | zero =>
    obtain ⟨r, i, _, _, _, _, h5⟩ := h
    exact absurd h5 (by show ¬ 0 = x.2 + 2; omega)
  | succ M =>
    have hk := tr_kids hG hN hN16 h
    show (x.1, x.2, d) :: (tr_ch tk nx ln c x.1).flatMap (tr_pre (tr_ch tk nx ln c) M (d + 1)) = _
    congr 1
    rw [List.flatMap_def, List.flatMap_def]
    congr 1
    exact List.map_congr_left (fun y hy => tr_stab hG hN hN16 M y (d + 1) M (M + 1) (hk y hy) (Nat.le_refl M) (Nat.le_succ M))
end
/-! cut lists -/
theorem tr_cut {α β : Type} {f : α → List β} : ∀ (l : List α), (∀ a, a ∈ l → f a ≠ []) → ∀ m, (l.flatMap f).take m = ((l.take m).flatMap f).take m
  | [], _, m => by rw [List.take_nil]
  | a :: l, h, 0 => by rw [List.take_zero, List.take_zero]
  | a :: l, h, m + 1 => by
    have ih := tr_cut l (fun b hb => h b (List.mem_cons_of_mem a hb)) m
    have ha : 1 ≤ (f a).length := by
      rcases hf : f a with _ | ⟨y, ys⟩
      · exact absurd hf (h a List.mem_cons_self)
      · simp
    rw [List.take_succ_cons, List.flatMap_cons, List.flatMap_cons, List.take_append, List.take_append]
    congr 1
    have e1 : ∀ (l1 : List β), l1.take (m + 1 - (f a).length) = (l1.take m).take (m + 1 - (f a).length) := by
      intro l1
      rw [List.take_take, Nat.min_eq_left (by omega)]
    rw [e1 (l.flatMap f), ih, ← e1]
theorem tr_c30 {α : Type} (C R : List α) {k : Nat} (hk : k ≤ 30) : (C.take 30 ++ R).take k = (C ++ R).take k := by
  by_cases z : C.length ≤ 30
  · rw [List.take_of_length_le z]
  · rw [List.take_append_of_le_length (by rw [List.length_take]; omega), List.take_append_of_le_length (by omega), List.take_take, Nat.min_eq_left hk]
/-- one expansion keeps what the nodes stand for -/
theorem tr_step {ch : Nat → List (Nat × Nat)} {PR : Nat → Nat × Nat → List (Nat × Nat × Nat)} {A R : List (Nat × Nat × Nat)} {q j d : Nat} (hA : A.length < 30)
    (he : PR d (q, j) = (q, j, d) :: (ch q).flatMap (PR (d + 1))) (hk : ∀ y, y ∈ ch q → PR (d + 1) y ≠ []) (hR : ∀ z, z ∈ R → PR z.2.2 (z.1, z.2.1) ≠ []) :
    ((A ++ [(q, j, d)]) ++ ((((ch q).take 30).map (fun y => (y.1, y.2, d + 1)) ++ R).take (29 - A.length)).flatMap (fun z => PR z.2.2 (z.1, z.2.1))).take 30 = (A ++ ((q, j, d) :: R).flatMap (fun z => PR z.2.2 (z.1, z.2.1))).take 30 := by
  have e1 : ((q, j, d) :: R).flatMap (fun z => PR z.2.2 (z.1, z.2.1)) = [(q, j, d)] ++ ((ch q).map (fun y => (y.1, y.2, d + 1)) ++ R).flatMap (fun z => PR z.2.2 (z.1, z.2.1)) := by
    rw [List.flatMap_cons, List.flatMap_append, List.flatMap_map]
    show PR d (q, j) ++ _ = _
    rw [he]
    rfl
  rw [e1, ← List.append_assoc, List.take_append (l₁ := A ++ [(q, j, d)]), List.take_append (l₁ := A ++ [(q, j, d)])]
  congr 1
  have hl : (A ++ [(q, j, d)]).length = A.length + 1 := by rw [List.length_append]; rfl
  rw [hl, show 30 - (A.length + 1) = 29 - A.length by omega, List.map_take]
  rw [tr_c30 _ _ (by omega)]
  symm
  refine tr_cut _ (fun z hz => ?_) _
  rcases List.mem_append.mp hz with y | y
  · obtain ⟨x, hx, rfl⟩ := List.mem_map.mp y
    exact hk x hx
  · exact hR z y
end
section
/-! the component's tree -/
def xt_r (tR tS tE tD : Nat → Int32) (m : Nat) (z : Nat × Nat × Nat) : Prop := tR m = nI (z.1 / 17) ∧ tS m = nI (z.1 % 17) ∧ tE m = nI z.2.1 ∧ tD m = nI z.2.2
def xt_b (m : Nat) (z : Nat × Nat × Nat) : Prop := z.1 < 68 ∧ z.2.1 ≤ 16 ∧ z.2.2 ≤ m
theorem xt_u {tR tS tE tD : Nat → Int32} {m : Nat} {z : Nat × Nat × Nat} : xt_r (upd tR m (nI (z.1 / 17))) (upd tS m (nI (z.1 % 17))) (upd tE m (nI z.2.1)) (upd tD m (nI z.2.2)) m z := ⟨pk_us, pk_us, pk_us, pk_us⟩
theorem xt_n {tR tS tE tD : Nat → Int32} {m m' : Nat} {z : Nat × Nat × Nat} {a b c d : Int32} (h : xt_r tR tS tE tD m z) (hm : m ≠ m') : xt_r (upd tR m' a) (upd tS m' b) (upd tE m' c) (upd tD m' d) m z := by
  unfold xt_r
  rw [pk_un hm, pk_un hm, pk_un hm, pk_un hm]
  exact h
section
variable {P : SX → Prop} {f_pendingCount f_length f_sp f_pc f_at f_far f_silence f_depth f_count f_treeNodes f_emitted f_listing f_stuck : Int32} {a_pending a_text a_operation a_operand a_opens a_stage a_hole a_kept a_looked a_active a_goOn a_where a_third a_fourth a_treeRule a_treeStart a_treeEnd a_treeDepth a_part a_partEnd : Nat → Int32}
theorem xp_set {m : Nat} {z : Nat × Nat × Nat} (hm : m < 30) (hq : z.1 < 68) (he : z.2.1 < 128) (hd : z.2.2 < 128)
    (k : P (f_pendingCount, f_length, f_sp, f_pc, f_at, f_far, f_silence, f_depth, f_count, f_treeNodes, f_emitted, f_listing, f_stuck, a_pending, a_text, a_operation, a_operand, a_opens, a_stage, a_hole, a_kept, a_looked, a_active, a_goOn, a_where, a_third, a_fourth, upd a_treeRule m (nI (z.1 / 17)), upd a_treeStart m (nI (z.1 % 17)), upd a_treeEnd m (nI z.2.1), upd a_treeDepth m (nI z.2.2), a_part, a_partEnd)) : wpX_set P (f_pendingCount, f_length, f_sp, f_pc, f_at, f_far, f_silence, f_depth, f_count, f_treeNodes, f_emitted, f_listing, f_stuck, a_pending, a_text, a_operation, a_operand, a_opens, a_stage, a_hole, a_kept, a_looked, a_active, a_goOn, a_where, a_third, a_fourth, a_treeRule, a_treeStart, a_treeEnd, a_treeDepth, a_part, a_partEnd) (nI m) (nI z.1) (nI z.2.1) (nI z.2.2) := by
  have i : vp_in (nI m) 30 := xb_in hm (by omega)
  have e : (nI m).toNatClampNeg = m := xb_c (by omega)
  have d1 : nI z.1 / 17 = nI (z.1 / 17) := pk_div (d := 17) (by omega) (by omega) (by omega)
  have d2 : nI z.1 - nI z.1 / 17 * 17 = nI (z.1 % 17) := pk_rem (d := 17) (by omega) (by omega) (by omega)
  exact And.intro (by decide) (And.intro i (nm_r (e' := upd a_treeRule m (nI (z.1 / 17))) (by rw [e, d1, xb_b (by omega)]) (And.intro (by decide) (And.intro i (nm_r (e' := upd a_treeStart m (nI (z.1 % 17))) (by rw [e, d2, xb_b (by omega)]) (And.intro i (nm_r (e' := upd a_treeEnd m (nI z.2.1)) (by rw [e, xb_b (by omega)]) (And.intro i (nm_r (e' := upd a_treeDepth m (nI z.2.2)) (by rw [e, xb_b (by omega)]) k)))))))))
theorem xt_74 {T : List (Nat × Nat × Nat)} {n cnt last : Nat} (hT : ∀ m z, T[m]? = some z → xt_b m z) (hcnt : cnt ≤ 30) (hn : n < 30) (hl : last < 30) (hlt : last < T.length + cnt)
    (K : ∀ tR tS tE tD : Nat → Int32, (∀ m z, m ≤ n → T[m]? = some z → xt_r tR tS tE tD m z) → (∀ m z, n + cnt < m → m ≤ last → T[m - cnt]? = some z → xt_r tR tS tE tD m z) →
      ∃ n145, wX_expand_145 P (nI n) (nI last) n145 0 f_pendingCount f_length f_sp f_pc f_at f_far f_silence f_depth (nI cnt) f_treeNodes f_emitted f_listing f_stuck a_pending a_text a_operation a_operand a_opens a_stage a_hole a_kept a_looked a_active a_goOn a_where a_third a_fourth tR tS tE tD a_part a_partEnd) :
    ∀ (d j : Nat) (tR tS tE tD : Nat → Int32), j ≤ n + cnt + d → j ≤ last → n ≤ j → (∀ m z, m ≤ j → T[m]? = some z → xt_r tR tS tE tD m z) → (∀ m z, j < m → m ≤ last → T[m - cnt]? = some z → xt_r tR tS tE tD m z) →
      wX_expand_74 P (nI n) (nI last) (d + 1) (nI j) f_pendingCount f_length f_sp f_pc f_at f_far f_silence f_depth (nI cnt) f_treeNodes f_emitted f_listing f_stuck a_pending a_text a_operation a_operand a_opens a_stage a_hole a_kept a_looked a_active a_goOn a_where a_third a_fourth tR tS tE tD a_part a_partEnd := by
  intro d
  induction d with
  | zero =>
    intro j tR tS tE tD h1 h2 h3 h4 h5
    exact pk_le j (n + cnt) (fun _ => K tR tS tE tD (fun m z hm => h4 m z (by omega)) (fun m z hm => h5 m z (by omega))) (fun y => absurd y (by omega)) rfl (nI_add n cnt)
  | succ d ih =>
    intro j tR tS tE tD h1 h2 h3 h4 h5
    refine pk_le j (n + cnt) (fun _ => K tR tS tE tD (fun m z hm => h4 m z (by omega)) (fun m z hm => h5 m z (by omega))) (fun y => ?_) rfl (nI_add n cnt)
    have es : nI j - nI cnt = nI (j - cnt) := pk_sub (by omega)
    have i : vp_in (nI j - nI cnt) 30 := by rw [es]; exact xb_in (by omega) (by omega)
    have e : (nI j - nI cnt).toNatClampNeg = j - cnt := by rw [es]; exact xb_c (by omega)
    obtain ⟨z, hz⟩ : ∃ z, T[j - cnt]? = some z := ⟨T[j - cnt]'(by omega), List.getElem?_eq_getElem (by omega)⟩
    obtain ⟨r1, r2, r3, r4⟩ := h4 _ _ (by omega) hz
    obtain ⟨b1, b2, b3⟩ := hT _ _ hz
    refine And.intro i (And.intro i (And.intro i (And.intro i ?_)))
    have e1 : tR (nI j - nI cnt).toNatClampNeg * 17 + tS (nI j - nI cnt).toNatClampNeg = nI z.1 := by
      rw [e, r1, r2, xp_q]
      exact congrArg nI (by omega)
    rw [e1, e, r3, r4]
    obtain ⟨j', rfl⟩ : ∃ q, j = q + 1 := ⟨j - 1, by omega⟩
    refine xp_set (by omega) b1 (by omega) (by omega) (nm_r (pk_m1 j') (ih j' _ _ _ _ (by omega) (by omega) (by omega) (fun m z' hm hz' => ?_) (fun m z' hm hm' hz' => ?_)))
    · exact xt_n (h4 m z' (by omega) hz') (by omega)
    · by_cases y : m = j' + 1
      · subst y
        rw [hz] at hz'
        obtain rfl : z = z' := by simpa using hz'
        exact xt_u
      · exact xt_n (h5 m z' (by omega) hm' hz') y
theorem xt_145 {T Cs : List (Nat × Nat × Nat)} {L : List (Nat × Nat)} {n last dd : Nat} (hC : Cs = L.map (fun y => (y.1, y.2, dd + 1))) (hL : ∀ y, y ∈ L → y.1 < 68 ∧ y.2 ≤ 16) (hP : xm_P L a_part a_partEnd) (hn : n < 30) (hdd : dd ≤ n)
    (h0 : ∃ z, T[n]? = some z ∧ z.2.2 = dd)
    (K : ∀ tR tS tE tD : Nat → Int32, (∀ m z, m ≤ n → T[m]? = some z → xt_r tR tS tE tD m z) → (∀ m z, n < m → m < 30 → Cs[m - n - 1]? = some z → xt_r tR tS tE tD m z) → (∀ m z, n + L.length < m → m ≤ last → T[m - L.length]? = some z → xt_r tR tS tE tD m z) →
      P (f_pendingCount, f_length, f_sp, f_pc, f_at, f_far, f_silence, f_depth, nI L.length, nI (last + 1), f_emitted, f_listing, f_stuck, a_pending, a_text, a_operation, a_operand, a_opens, a_stage, a_hole, a_kept, a_looked, a_active, a_goOn, a_where, a_third, a_fourth, tR, tS, tE, tD, a_part, a_partEnd)) :
    ∀ (d c : Nat) (tR tS tE tD : Nat → Int32), c + d = L.length → (∀ m z, m ≤ n → T[m]? = some z → xt_r tR tS tE tD m z) → (∀ m z, n < m → m ≤ n + c → Cs[m - n - 1]? = some z → xt_r tR tS tE tD m z) → (∀ m z, n + L.length < m → m ≤ last → T[m - L.length]? = some z → xt_r tR tS tE tD m z) →
      wX_expand_145 P (nI n) (nI last) (d + 1) (nI c) f_pendingCount f_length f_sp f_pc f_at f_far f_silence f_depth (nI L.length) f_treeNodes f_emitted f_listing f_stuck a_pending a_text a_operation a_operand a_opens a_stage a_hole a_kept a_looked a_active a_goOn a_where a_third a_fourth tR tS tE tD a_part a_partEnd := by
  have hl := hP.1
  intro d
  induction d with
  | zero =>
    intro c tR tS tE tD h1 h4 h5 h6
    refine pk_le L.length c (fun _ => nm_r (nI_1 last) (K tR tS tE tD h4 (fun m z hm hm' hz => h5 m z hm ?_ hz) h6)) (fun y => absurd y (by omega))
    have : m - n - 1 < Cs.length := by
      apply Classical.byContradiction
      intro y
      rw [List.getElem?_eq_none (by omega)] at hz
      exact absurd hz (by simp)
    rw [hC, List.length_map] at this
    omega
  | succ d ih =>
    intro c tR tS tE tD h1 h4 h5 h6
    have e1 : nI n + 1 + nI c = nI (n + 1 + c) := by rw [nI_1, nI_add]
    refine pk_le L.length c (fun y => absurd y (by omega)) (fun y => ?_)
    refine pk_le 30 (n + 1 + c) (fun y' => nm_r (nI_1 last) (K tR tS tE tD h4 (fun m z hm hm' hz => h5 m z hm (by omega) hz) h6)) (fun y' => ?_) rfl e1
    have ic : vp_in (nI c) 30 := xb_in (by omega) (by omega)
    have ec : (nI c).toNatClampNeg = c := xb_c (by omega)
    have en : (nI n).toNatClampNeg = n := xb_c (by omega)
    obtain ⟨z0, hz0, hzd⟩ := h0
    obtain ⟨r1, r2, r3, r4⟩ := h4 n z0 (Nat.le_refl n) hz0
    obtain ⟨y1, hy1⟩ : ∃ y, L[c]? = some y := ⟨L[c]'(by omega), List.getElem?_eq_getElem (by omega)⟩
    obtain ⟨p1, p2⟩ := hP.2 c y1 hy1
    have hm1 := hL y1 (List.mem_of_getElem? hy1)
    refine And.intro ic (And.intro ic (And.intro (xb_in hn (by omega)) ?_))
    rw [e1, ec, en, p1, p2, r4, hzd, nI_1 dd]
    refine xp_set (z := (y1.1, y1.2, dd + 1)) (by omega) hm1.1 (by show y1.2 < 128; omega) (by show dd + 1 < 128; omega) (nm_r (nI_1 c) (ih (c + 1) _ _ _ _ (by omega) (fun m z hm hz => ?_) (fun m z hm hm' hz => ?_) (fun m z hm hm' hz => ?_)))
    · exact xt_n (h4 m z hm hz) (by omega)
    · by_cases q : m = n + 1 + c
      · subst q
        rw [hC, show n + 1 + c - n - 1 = c by omega, List.getElem?_map, hy1] at hz
        obtain rfl : (y1.1, y1.2, dd + 1) = z := by simpa using hz
        exact xt_u
      · exact xt_n (h5 m z hm (by omega) hz) q
    · exact xt_n (h6 m z hm hm' hz) (by omega)
end
/-- the expanded list by places -/
theorem xt_get {A R Cs : List (Nat × Nat × Nat)} {x : Nat × Nat × Nat} {Q : Nat → Nat × Nat × Nat → Prop} (h1 : ∀ m z, m ≤ A.length → (A ++ x :: R)[m]? = some z → Q m z) (h2 : ∀ m z, A.length < m → m < 30 → Cs[m - A.length - 1]? = some z → Q m z)
    (h3 : ∀ m z, A.length + Cs.length < m → m < 30 → (A ++ x :: R)[m - Cs.length]? = some z → Q m z) : ∀ m z, (A ++ [x] ++ (Cs ++ R).take (29 - A.length))[m]? = some z → Q m z := by
  intro m z hz
  by_cases y : m < A.length + 1
  · rw [List.getElem?_append_left (by rw [List.length_append]; exact y)] at hz
    refine h1 m z (by omega) ?_
    by_cases y2 : m < A.length
    · rw [List.getElem?_append_left y2] at hz ⊢
      exact hz
    · obtain rfl : m = A.length := by omega
      rw [List.getElem?_append_right (Nat.le_refl _), Nat.sub_self] at hz ⊢
      exact hz
  · rw [List.getElem?_append_right (by rw [List.length_append]; show A.length + 1 ≤ m; omega), List.length_append] at hz
    have hz' : ((Cs ++ R).take (29 - A.length))[m - (A.length + 1)]? = some z := hz
    rw [List.getElem?_take] at hz'
    split at hz'
    · rename_i hlt
      by_cases y2 : m - (A.length + 1) < Cs.length
      · rw [List.getElem?_append_left y2] at hz'
        exact h2 m z (by omega) (by omega) (by rw [show m - A.length - 1 = m - (A.length + 1) by omega]; exact hz')
      · rw [List.getElem?_append_right (by omega)] at hz'
        refine h3 m z (by omega) (by omega) ?_
        rw [List.getElem?_append_right (by omega), show m - Cs.length - A.length = (m - (A.length + 1) - Cs.length) + 1 by omega, List.getElem?_cons_succ]
        exact hz'
    · exact absurd hz' (by simp)
/-- what a parse leaves: everything but the machine's own fields and the tree -/
def xt_PQ (P : SX → Prop) (f_pendingCount f_length f_emitted : Int32) (a_pending a_text a_operation a_operand a_opens a_stage a_hole : Nat → Int32) (kp lk : Nat → Int32) (T : List (Nat × Nat × Nat)) : Prop :=
  ∀ (f_sp f_pc f_at f_far f_silence f_depth f_count f_listing f_stuck : Int32) (a_active a_goOn a_where a_third a_fourth a_part a_partEnd a_treeRule a_treeStart a_treeEnd a_treeDepth : Nat → Int32),
    (∀ m z, T[m]? = some z → xt_r a_treeRule a_treeStart a_treeEnd a_treeDepth m z) → P (f_pendingCount, f_length, f_sp, f_pc, f_at, f_far, f_silence, f_depth, f_count, nI T.length, f_emitted, f_listing, f_stuck, a_pending, a_text, a_operation, a_operand, a_opens, a_stage, a_hole, kp, lk, a_active, a_goOn, a_where, a_third, a_fourth, a_treeRule, a_treeStart, a_treeEnd, a_treeDepth, a_part, a_partEnd)
section
variable {P : SX → Prop} {f_pendingCount f_length f_sp f_pc f_at f_far f_silence f_depth f_count f_treeNodes f_emitted f_listing f_stuck : Int32} {a_pending a_text a_operation a_operand a_opens a_stage a_hole a_kept a_looked a_active a_goOn a_where a_third a_fourth a_treeRule a_treeStart a_treeEnd a_treeDepth a_part a_partEnd : Nat → Int32} {tk nx ln c : Nat → Nat} {N : Nat}
theorem xp_expand (hX : xl_X f_length a_text a_operation a_operand tk nx ln c N) {A R : List (Nat × Nat × Nat)} {q j d r i w k ρ : Nat} {p : List (Nat × Nat)} (hA : (A ++ (q, j, d) :: R).length ≤ 30)
    (hrep : ∀ m z, (A ++ (q, j, d) :: R)[m]? = some z → xt_r a_treeRule a_treeStart a_treeEnd a_treeDepth m z) (hbd : ∀ m z, (A ++ (q, j, d) :: R)[m]? = some z → xt_b m z)
    (hr : r < 4) (hi : i ≤ N) (hln : ln r ≠ 0) (hq : q = 17 * r + i) (hev : (pg_ev tk nx ln c ρ).1 (12 * r) i = (j + 2, w, k, p)) (hp : ∀ y, y ∈ p → y.1 < 68 ∧ y.2 ≤ 16) (hM : xl_M tk nx ln c N a_kept a_looked)
    (K : ∀ kp' lk', xl_M tk nx ln c N kp' lk' → xt_PQ P f_pendingCount f_length f_emitted a_pending a_text a_operation a_operand a_opens a_stage a_hole kp' lk' (A ++ [(q, j, d)] ++ (((p.take 30).map (fun y => (y.1, y.2, d + 1))) ++ R).take (29 - A.length))) :
    wpX_expand P (f_pendingCount, f_length, f_sp, f_pc, f_at, f_far, f_silence, f_depth, f_count, nI (A ++ (q, j, d) :: R).length, f_emitted, f_listing, f_stuck, a_pending, a_text, a_operation, a_operand, a_opens, a_stage, a_hole, a_kept, a_looked, a_active, a_goOn, a_where, a_third, a_fourth, a_treeRule, a_treeStart, a_treeEnd, a_treeDepth, a_part, a_partEnd) (nI A.length) := by
  have hN16 := hX.2.1
  have hAl : A.length < 30 := by rw [List.length_append] at hA; have : ((q, j, d) :: R).length = R.length + 1 := rfl; omega
  have hnode : (A ++ (q, j, d) :: R)[A.length]? = some (q, j, d) := by rw [List.getElem?_append_right (Nat.le_refl _), Nat.sub_self]; rfl
  obtain ⟨r1, r2, r3, r4⟩ := hrep _ _ hnode
  obtain ⟨b1, b2, b3⟩ := hbd _ _ hnode
  simp only at r1 r2 r3 r4 b1 b2 b3
  have i30 : vp_in (nI A.length) 30 := xb_in hAl (by omega)
  have en : (nI A.length).toNatClampNeg = A.length := xb_c (by omega)
  have eS : a_treeStart (nI A.length).toNatClampNeg = nI i := by rw [en, r2]; exact congrArg nI (by omega)
  have eR : a_treeRule (nI A.length).toNatClampNeg = nI r := by rw [en, r1]; exact congrArg nI (by omega)
  refine And.intro i30 ?_
  rw [eS]
  refine xp_prep (Or.inr rfl) (fun ac hac => And.intro i30 (And.intro i30 (And.intro i30 ?_)))
  rw [eR, eS, xp_q]
  refine xp_enter (sp := 0) (a := 1000) (dep := 0) hr (by omega) (by omega) (by decide) (by omega) (by omega) (by omega) ?_
  refine ⟨4000001, xl_root hX hr hln hi hev (by omega) hac hM true (fun _ => by decide) (fun y => (nomatch y)) (fun kp' lk' ac' L' hM' hk' hL' => ?_) _ _ _ _ _ _ 4000001 (xm_S_p (S := []) trivial) ⟨by decide, fun x y h => absurd h (by simp)⟩ (by omega)⟩
  intro ps far sil dep g w th fo pa pe hP
  have hL : L' = p.take 30 := hL' (by omega)
  subst hL
  have hl := hP.1
  have hcl : ((p.take 30).map (fun y => (y.1, y.2, d + 1))).length = (p.take 30).length := List.length_map _
  have hlen : (A ++ [(q, j, d)] ++ (((p.take 30).map (fun y => (y.1, y.2, d + 1))) ++ R).take (29 - A.length)).length = min ((A ++ (q, j, d) :: R).length + (p.take 30).length) 30 := by
    rw [List.length_append, List.length_append, List.length_take, List.length_append, hcl, List.length_append]
    show A.length + 1 + _ = min (A.length + (R.length + 1) + _) 30
    omega
  have hmem : ∀ y, y ∈ p.take 30 → y.1 < 68 ∧ y.2 ≤ 16 := fun y hy => hp y (List.mem_of_mem_take hy)
  have fin : ∀ last, last + 1 = min ((A ++ (q, j, d) :: R).length + (p.take 30).length) 30 → ∃ n74, wX_expand_74 P (nI A.length) (nI last) n74 (nI last) f_pendingCount f_length 0 (-1) ps far sil dep (nI (p.take 30).length) (nI (A ++ (q, j, d) :: R).length) f_emitted 1 0 a_pending a_text a_operation a_operand a_opens a_stage a_hole kp' lk' ac' g w th fo a_treeRule a_treeStart a_treeEnd a_treeDepth pa pe := by
    intro last hlast
    have hRl : (A ++ (q, j, d) :: R).length = A.length + (R.length + 1) := List.length_append
    refine ⟨30 + 1, xt_74 hbd hl hAl (by omega) (by omega) (fun tR tS tE tD g1 g2 => ⟨_, xt_145 (T := A ++ (q, j, d) :: R) rfl hmem hP hAl b3 ⟨_, hnode, rfl⟩ (fun tR tS tE tD k1 k2 k3 => ?_) (p.take 30).length 0 tR tS tE tD (by omega) g1 (fun m z hm hm' => absurd hm (by omega)) g2⟩) 30 last _ _ _ _ (by omega) (Nat.le_refl _) (by omega) (fun m z _ hz => hrep m z hz) (fun m z hm hm' => absurd hm (by omega))⟩
    have fin2 := K kp' lk' hM' 0 (-1) ps far sil dep (nI (p.take 30).length) 1 0 ac' g w th fo pa pe tR tS tE tD (xt_get k1 k2 (fun m z hm hm' hz => by
      rw [hcl] at hm hz
      refine k3 m z hm ?_ hz
      have : m - (p.take 30).length < (A ++ (q, j, d) :: R).length := by
        apply Classical.byContradiction
        intro y
        rw [List.getElem?_eq_none (by omega)] at hz
        exact absurd hz (by simp)
      omega))
    rw [hlen, ← hlast] at fin2
    exact fin2
  refine pk_le ((A ++ (q, j, d) :: R).length + (p.take 30).length) 30 (fun y => ?_) (fun y => fin 29 (by omega)) (nI_add _ _)
  have hRl : (A ++ (q, j, d) :: R).length = A.length + (R.length + 1) := List.length_append
  refine nm_r (e' := nI ((A ++ (q, j, d) :: R).length + (p.take 30).length - 1)) ?_ (fin _ (by omega))
  rw [nI_add]
  exact pk_sub (b := 1) (by omega)
end
end
section
/-! the component's parse -/
section
variable {Q : Int32 → SX → Prop} {f_pendingCount f_length f_sp f_pc f_at f_far f_silence f_depth f_count f_treeNodes f_emitted f_listing f_stuck : Int32} {a_pending a_text a_operation a_operand a_opens a_stage a_hole a_kept a_looked a_active a_goOn a_where a_third a_fourth a_treeRule a_treeStart a_treeEnd a_treeDepth a_part a_partEnd : Nat → Int32} {tk nx ln c : Nat → Nat} {N : Nat}
theorem xt_okb (hG : pg_G tk nx ln) (hN : ∀ x, N ≤ x → c x = 0) (hN16 : N ≤ 16) {n : Nat} {y : Nat × Nat} (h : tr_ok tk nx ln c N n y) : y.1 < 68 ∧ y.2 ≤ 16 := by
  obtain ⟨r, i, h1, h2, h3, h4, h5⟩ := h
  have := (pg_bd hG hN n _ i (pg_C_r hG h1 h3).1 h2).1 (by omega)
  have := this.2.2 (by omega)
  omega
theorem xp_62 (hX : xl_X f_length a_text a_operation a_operand tk nx ln c N) {M : Nat} {ans : Int32} {G : List (Nat × Nat × Nat)}
    (K : ∀ kp' lk', xl_M tk nx ln c N kp' lk' → xt_PQ (Q ans) f_pendingCount f_length f_emitted a_pending a_text a_operation a_operand a_opens a_stage a_hole kp' lk' G) :
    ∀ (f : Nat) (A B : List (Nat × Nat × Nat)) (f_sp f_pc f_at f_far f_silence f_depth f_count f_listing f_stuck : Int32) (a_active a_goOn a_where a_third a_fourth a_part a_partEnd a_treeRule a_treeStart a_treeEnd a_treeDepth kp lk : Nat → Int32),
      31 ≤ f + A.length → (A ++ B).length ≤ 30 → (∀ m z, (A ++ B)[m]? = some z → xt_r a_treeRule a_treeStart a_treeEnd a_treeDepth m z) → (∀ m z, (A ++ B)[m]? = some z → xt_b m z) → (∀ z, z ∈ B → tr_ok tk nx ln c N M (z.1, z.2.1)) → xl_M tk nx ln c N kp lk →
      (A ++ B.flatMap (fun z => tr_pre (tr_ch tk nx ln c) M z.2.2 (z.1, z.2.1))).take 30 = G →
      wX_parse_62 Q ans f (nI A.length) f_pendingCount f_length f_sp f_pc f_at f_far f_silence f_depth f_count (nI (A ++ B).length) f_emitted f_listing f_stuck a_pending a_text a_operation a_operand a_opens a_stage a_hole kp lk a_active a_goOn a_where a_third a_fourth a_treeRule a_treeStart a_treeEnd a_treeDepth a_part a_partEnd := by
  have hN16 := hX.2.1
  have hN := hX.2.2.2.1
  intro f
  induction f with
  | zero =>
    intro A B f_sp f_pc f_at f_far f_silence f_depth f_count f_listing f_stuck a_active a_goOn a_where a_third a_fourth a_part a_partEnd a_treeRule a_treeStart a_treeEnd a_treeDepth kp lk h1 h2
    rw [List.length_append] at h2
    omega
  | succ f ih =>
    intro A B f_sp f_pc f_at f_far f_silence f_depth f_count f_listing f_stuck a_active a_goOn a_where a_third a_fourth a_part a_partEnd a_treeRule a_treeStart a_treeEnd a_treeDepth kp lk h1 h2 hrep hbd hok hM hG
    cases B with
    | nil =>
      rw [List.append_nil] at h2 hrep
      have e : A = G := by
        rw [← hG, List.flatMap_nil, List.append_nil, List.take_of_length_le h2]
      subst e
      have k1 := K kp lk hM f_sp f_pc f_at f_far f_silence f_depth f_count f_listing f_stuck a_active a_goOn a_where a_third a_fourth a_part a_partEnd a_treeRule a_treeStart a_treeEnd a_treeDepth hrep
      rw [List.append_nil]
      exact pk_le A.length A.length (fun _ => k1) (fun y => absurd y (by omega))
    | cons x R =>
      obtain ⟨q, j, d⟩ := x
      have hx := hok _ List.mem_cons_self
      have hAl : A.length < 30 := by rw [List.length_append] at h2; have : ((q, j, d) :: R).length = R.length + 1 := rfl; omega
      refine pk_le (A ++ (q, j, d) :: R).length A.length (fun y => ?_) (fun _ => ?_)
      · rw [List.length_append] at y
        have : ((q, j, d) :: R).length = R.length + 1 := rfl
        omega
      · have heq := tr_eq hX.1 hN hN16 d (q, j) hx
        obtain ⟨M', rfl⟩ : ∃ M', M = M' + 1 := by
          cases M with
          | zero =>
            obtain ⟨r, i, _, _, _, _, h5⟩ := hx
            exact absurd h5 (by show ¬ 0 = j + 2; omega)
          | succ M' => exact ⟨M', rfl⟩
        have hkid : ∀ y, y ∈ tr_ch tk nx ln c q → tr_ok tk nx ln c N (M' + 1) y := fun y hy => tr_ok_m (tr_kids hX.1 hN hN16 hx y hy) (Nat.le_succ M')
        have hne : ∀ (d : Nat) (y : Nat × Nat), tr_ok tk nx ln c N (M' + 1) y → tr_pre (tr_ch tk nx ln c) (M' + 1) d y ≠ [] := fun d y _ => by
          show _ :: _ ≠ []
          simp
        obtain ⟨r, i, g1, g2, g3, g4, g5⟩ := hx
        simp only at g4 g5
        rcases hev : (pg_ev tk nx ln c (M' + 1)).1 (12 * r) i with ⟨o, w, k, p⟩
        rw [hev] at g5
        simp only at g5
        subst g5
        have hp : tr_ch tk nx ln c q = p := by
          rw [g4, tr_ch_of (n := M' + 1) (by omega) (by rw [hev]; simp), hev]
        have hpb : ∀ y, y ∈ p → y.1 < 68 ∧ y.2 ≤ 16 := fun y hy => xt_okb hX.1 hN hN16 (hkid y (by rw [hp]; exact hy))
        have hd : d ≤ A.length := by
          have := hbd A.length (q, j, d) (by rw [List.getElem?_append_right (Nat.le_refl _), Nat.sub_self]; rfl)
          exact this.2.2
        refine xp_expand hX h2 hrep hbd g1 g2 g3 g4 hev hpb hM (fun kp' lk' hM' => ?_)
        intro f_sp f_pc f_at f_far f_silence f_depth f_count f_listing f_stuck a_active a_goOn a_where a_third a_fourth a_part a_partEnd a_treeRule a_treeStart a_treeEnd a_treeDepth hrep'
        refine nm_r (e' := nI (A ++ [(q, j, d)]).length) (by rw [List.length_append]; exact nI_1 A.length) ?_
        have hcl : ((p.take 30).map (fun y => (y.1, y.2, d + 1))).length = (p.take 30).length := List.length_map _
        refine ih (A ++ [(q, j, d)]) ((((p.take 30).map (fun y => (y.1, y.2, d + 1))) ++ R).take (29 - A.length)) _ _ _ _ _ _ _ _ _ _ _ _ _ _ _ _ _ _ _ _ kp' lk' ?_ ?_ hrep' ?_ ?_ hM' ?_
        · rw [List.length_append]
          show 31 ≤ f + (A.length + 1)
          omega
        · rw [List.length_append, List.length_append, List.length_take]
          show A.length + 1 + _ ≤ 30
          omega
        · refine xt_get (fun m z hm hz => hbd m z hz) (fun m z hm hm' hz => ?_) (fun m z hm hm' hz => ?_)
          · have hz' := List.mem_of_getElem? hz
            obtain ⟨y, hy, rfl⟩ := List.mem_map.mp hz'
            have := hpb y (List.mem_of_mem_take hy)
            exact ⟨this.1, this.2, by show d + 1 ≤ m; omega⟩
          · have := hbd _ z hz
            exact ⟨this.1, this.2.1, by have := this.2.2; omega⟩
        · intro z hz
          rcases List.mem_append.mp (List.mem_of_mem_take hz) with y | y
          · obtain ⟨v, hv, rfl⟩ := List.mem_map.mp y
            exact hkid v (by rw [hp]; exact List.mem_of_mem_take hv)
          · exact hok z (List.mem_cons_of_mem _ y)
        · rw [← hG, ← hp]
          exact tr_step hAl heq (fun y hy => hne _ y (hkid y hy)) (fun z hz => hne _ _ (hok z (List.mem_cons_of_mem _ hz)))
theorem xp_parse_a {r i : Nat} (hr : r < 4) (hi : i ≤ N) (hN : N ≤ 16)
    (k : wpX_run (fun r_5 u => match u with | (f_pendingCount, f_length, f_sp, f_pc, f_at, f_far, f_silence, f_depth, f_count, f_treeNodes, f_emitted, f_listing, f_stuck, a_pending, a_text, a_operation, a_operand, a_opens, a_stage, a_hole, a_kept, a_looked, a_active, a_goOn, a_where, a_third, a_fourth, a_treeRule, a_treeStart, a_treeEnd, a_treeDepth, a_part, a_partEnd) => (((0 ≤ r_5 → (wpX_set (fun u => match u with | (f_pendingCount, f_length, f_sp, f_pc, f_at, f_far, f_silence, f_depth, f_count, f_treeNodes, f_emitted, f_listing, f_stuck, a_pending, a_text, a_operation, a_operand, a_opens, a_stage, a_hole, a_kept, a_looked, a_active, a_goOn, a_where, a_third, a_fourth, a_treeRule, a_treeStart, a_treeEnd, a_treeDepth, a_part, a_partEnd) => (∃ n62 : Nat, wX_parse_62 Q r_5 n62 0 f_pendingCount f_length f_sp f_pc f_at f_far f_silence f_depth f_count f_treeNodes f_emitted f_listing f_stuck a_pending a_text a_operation a_operand a_opens a_stage a_hole a_kept a_looked a_active a_goOn a_where a_third a_fourth a_treeRule a_treeStart a_treeEnd a_treeDepth a_part a_partEnd)) (f_pendingCount, f_length, f_sp, f_pc, f_at, f_far, f_silence, f_depth, f_count, 1, f_emitted, f_listing, f_stuck, a_pending, a_text, a_operation, a_operand, a_opens, a_stage, a_hole, a_kept, a_looked, a_active, a_goOn, a_where, a_third, a_fourth, a_treeRule, a_treeStart, a_treeEnd, a_treeDepth, a_part, a_partEnd) 0 ((nI r * 17) + nI i) r_5 0)) ∧ (¬ 0 ≤ r_5 → (Q r_5 (f_pendingCount, f_length, f_sp, f_pc, f_at, f_far, f_silence, f_depth, f_count, f_treeNodes, f_emitted, f_listing, f_stuck, a_pending, a_text, a_operation, a_operand, a_opens, a_stage, a_hole, a_kept, a_looked, a_active, a_goOn, a_where, a_third, a_fourth, a_treeRule, a_treeStart, a_treeEnd, a_treeDepth, a_part, a_partEnd)))))) (f_pendingCount, nI N, f_sp, f_pc, f_at, f_far, f_silence, f_depth, f_count, 0, f_emitted, f_listing, f_stuck, a_pending, a_text, a_operation, a_operand, a_opens, a_stage, a_hole, a_kept, a_looked, a_active, a_goOn, a_where, a_third, a_fourth, a_treeRule, a_treeStart, a_treeEnd, a_treeDepth, a_part, a_partEnd) (nI r) (nI i)) : wpX_parse Q (f_pendingCount, nI N, f_sp, f_pc, f_at, f_far, f_silence, f_depth, f_count, f_treeNodes, f_emitted, f_listing, f_stuck, a_pending, a_text, a_operation, a_operand, a_opens, a_stage, a_hole, a_kept, a_looked, a_active, a_goOn, a_where, a_third, a_fourth, a_treeRule, a_treeStart, a_treeEnd, a_treeDepth, a_part, a_partEnd) (nI r) (nI i) :=
  br_f (nI_pos (by omega)) (br_f (nI_nlt (b := r) (a := 3) (by omega) (by decide)) (br_f (nI_pos (by omega)) (br_t (nI_le hi (by omega)) k)))
theorem xp_parse_1 (hX : xl_X f_length a_text a_operation a_operand tk nx ln c N) {r i w : Nat} (hr : r < 4) (hi : i ≤ N) (hv : xl_V tk nx ln c r i 1 w) (hM : xl_M tk nx ln c N a_kept a_looked)
    (K : ∀ kp' lk', xl_M tk nx ln c N kp' lk' → xt_PQ (Q (-2)) f_pendingCount f_length f_emitted a_pending a_text a_operation a_operand a_opens a_stage a_hole kp' lk' []) : wpX_parse Q (f_pendingCount, f_length, f_sp, f_pc, f_at, f_far, f_silence, f_depth, f_count, f_treeNodes, f_emitted, f_listing, f_stuck, a_pending, a_text, a_operation, a_operand, a_opens, a_stage, a_hole, a_kept, a_looked, a_active, a_goOn, a_where, a_third, a_fourth, a_treeRule, a_treeStart, a_treeEnd, a_treeDepth, a_part, a_partEnd) (nI r) (nI i) := by
  have hlen := hX.2.2.1
  have hX' := hX
  subst hlen
  refine xp_parse_a hr hi hX.2.1 (xp_run_v hX hr hi hv hM (fun kp' lk' hM' hk' => ?_))
  intro f_sp f_pc f_at f_far f_silence f_depth f_count f_listing f_stuck a_active a_goOn a_where a_third a_fourth a_part a_partEnd
  exact br_f (by decide) (K kp' lk' hM' _ _ _ _ _ _ _ _ _ _ _ _ _ _ _ _ _ _ _ _ (fun m z h => absurd h (by simp)))
theorem xp_parse_n (hX : xl_X f_length a_text a_operation a_operand tk nx ln c N) {r i : Nat} (hr : r < 4) (hi : i ≤ N) (hln : ln r ≠ 0) (hnv : xl_NV tk nx ln c (12 * r) i) (hM : xl_M tk nx ln c N a_kept a_looked)
    (K : ∀ kp' lk', xl_M tk nx ln c N kp' lk' → xt_PQ (Q (-3)) f_pendingCount f_length f_emitted a_pending a_text a_operation a_operand a_opens a_stage a_hole kp' lk' []) : wpX_parse Q (f_pendingCount, f_length, f_sp, f_pc, f_at, f_far, f_silence, f_depth, f_count, f_treeNodes, f_emitted, f_listing, f_stuck, a_pending, a_text, a_operation, a_operand, a_opens, a_stage, a_hole, a_kept, a_looked, a_active, a_goOn, a_where, a_third, a_fourth, a_treeRule, a_treeStart, a_treeEnd, a_treeDepth, a_part, a_partEnd) (nI r) (nI i) := by
  have hlen := hX.2.2.1
  subst hlen
  refine xp_parse_a hr hi hX.2.1 (xp_run_n hX hr hi hln hnv hM (fun kp' lk' hM' => ?_))
  intro f_sp f_pc f_at f_far f_silence f_depth f_count f_listing f_stuck a_active a_goOn a_where a_third a_fourth a_part a_partEnd
  exact br_f (by decide) (K kp' lk' hM' _ _ _ _ _ _ _ _ _ _ _ _ _ _ _ _ _ _ _ _ (fun m z h => absurd h (by simp)))
theorem xp_parse_2 (hX : xl_X f_length a_text a_operation a_operand tk nx ln c N) {r i j w k ρ : Nat} {p : List (Nat × Nat)} (hr : r < 4) (hi : i ≤ N) (hln : ln r ≠ 0) (hev : (pg_ev tk nx ln c ρ).1 (12 * r) i = (j + 2, w, k, p)) (hM : xl_M tk nx ln c N a_kept a_looked)
    (K : ∀ kp' lk', xl_M tk nx ln c N kp' lk' → xt_PQ (Q (nI j)) f_pendingCount f_length f_emitted a_pending a_text a_operation a_operand a_opens a_stage a_hole kp' lk' ((tr_pre (tr_ch tk nx ln c) ρ 0 (17 * r + i, j)).take 30)) : wpX_parse Q (f_pendingCount, f_length, f_sp, f_pc, f_at, f_far, f_silence, f_depth, f_count, f_treeNodes, f_emitted, f_listing, f_stuck, a_pending, a_text, a_operation, a_operand, a_opens, a_stage, a_hole, a_kept, a_looked, a_active, a_goOn, a_where, a_third, a_fourth, a_treeRule, a_treeStart, a_treeEnd, a_treeDepth, a_part, a_partEnd) (nI r) (nI i) := by
  have hlen := hX.2.2.1
  have hN16 := hX.2.1
  subst hlen
  have hok : tr_ok tk nx ln c N ρ (17 * r + i, j) := ⟨r, i, hr, hi, hln, rfl, by rw [hev]⟩
  have hb := xt_okb hX.1 hX.2.2.2.1 hN16 hok
  simp only at hb
  refine xp_parse_a hr hi hX.2.1 (xp_run_v hX hr hi (Or.inr ⟨hln, by omega, ρ, k, p, hev⟩) hM (fun kp' lk' hM' hk' => ?_))
  intro f_sp f_pc f_at f_far f_silence f_depth f_count f_listing f_stuck a_active a_goOn a_where a_third a_fourth a_part a_partEnd
  have e1 : xl_en (j + 2) = nI j := rfl
  rw [e1]
  refine br_t (nI_pos' (by omega)) ?_
  rw [xp_q]
  refine xp_set (m := 0) (z := (17 * r + i, j, 0)) (by omega) hb.1 (by show j < 128; omega) (by show 0 < 128; omega) ⟨31, ?_⟩
  refine xp_62 (M := ρ) hX K 31 [] [(17 * r + i, j, 0)] _ _ _ _ _ _ _ _ _ _ _ _ _ _ _ _ _ _ _ _ kp' lk' (by decide) (by show 1 ≤ 30; decide) (fun m z hz => ?_) (fun m z hz => ?_) (fun z hz => ?_) hM' ?_
  · rcases m with _ | m
    · obtain rfl : (17 * r + i, j, 0) = z := by simpa using hz
      exact xt_u
    · exact absurd hz (by simp)
  · rcases m with _ | m
    · obtain rfl : (17 * r + i, j, 0) = z := by simpa using hz
      exact ⟨hb.1, hb.2, Nat.le_refl 0⟩
    · exact absurd hz (by simp)
  · rw [List.mem_singleton] at hz
    subst hz
    exact hok
  · rw [List.flatMap_cons, List.flatMap_nil, List.append_nil, List.nil_append]
end
end
section
/-! the reference: what follows from a table -/
def y_en (o : Nat) : Int32 := if o = 0 then -3 else xl_en o
theorem y_en_0 : y_en 0 = -3 := rfl
theorem y_en_1 : y_en 1 = -2 := rfl
theorem y_en_2 (j : Nat) : y_en (j + 2) = nI j := rfl
theorem y_ne3 {j : Nat} (h : j ≤ 4000) : ¬ nI j = -3 := fun e => by
  have h1 : (nI j).toInt = (-3 : Int32).toInt := congrArg _ e
  rw [nI_toInt (by omega), show (-3 : Int32).toInt = -3 by decide] at h1
  omega
theorem y_ne2 {j : Nat} (h : j ≤ 4000) : ¬ nI j = -2 := fun e => by
  have h1 : (nI j).toInt = (-2 : Int32).toInt := congrArg _ e
  rw [nI_toInt (by omega), show (-2 : Int32).toInt = -2 by decide] at h1
  omega
def y_li (T : Nat → Nat → Nat) : Nat → Nat → pg_R := fun e i => (T e i, 0, 0, [])
def y_X (f_length : Int32) (a_tok a_len a_next a_text : Nat → Int32) (tk nx ln c : Nat → Nat) (N : Nat) : Prop :=
  pg_G tk nx ln ∧ N ≤ 16 ∧ f_length = nI N ∧ (∀ x, N ≤ x → c x = 0) ∧ (∀ j, j < N → a_text j = nI (c j) ∧ 97 ≤ c j ∧ c j ≤ 122) ∧
  (∀ r e, r < 4 → 12 * r ≤ e → e < 12 * r + ln r → a_tok e = nI (tk e) ∧ tk e < 128 ∧ a_next e = nI (nx e) ∧ nx e ≤ 48) ∧ (∀ r, r < 4 → a_len r = nI (ln r))
def y_R (tk nx ln : Nat → Nat) (N : Nat) (does again : Nat → Int32) (T G : Nat → Nat → Nat) : Prop :=
  (∀ e i, pg_C nx ln e → i ≤ N → does (17 * e + i) = y_en (T e i)) ∧ (∀ e i, pg_C nx ln e → (tk e = 12 ∨ tk e = 13) → i ≤ N → again (17 * e + i) = y_en (G e i))
def y_S (tk nx ln c : Nat → Nat) (T G : Nat → Nat → Nat) : Prop := (∀ e i, T e i ≠ 0 → T e i = (pg_lD tk nx ln c e i).1) ∧ (∀ e i, G e i ≠ 0 → G e i = (pg_lA tk nx ln c e i).1)
section
variable {tk nx ln c : Nat → Nat} {N e i : Nat} {T G : Nat → Nat → Nat}
theorem y_sD (h : y_S tk nx ln c T G) (hz : (pg_D tk nx ln c (y_li T) (y_li G) e i).1 ≠ 0) : (pg_D tk nx ln c (y_li T) (y_li G) e i).1 = (pg_lD tk nx ln c e i).1 := by
  have hD : ∀ e i, (y_li T e i).1 ≠ 0 → pg_er (pg_lD tk nx ln c) e i = y_li T e i := fun e i hh => by
    have := h.1 e i hh
    unfold pg_er y_li
    rw [this]
  have hA : ∀ e i, (y_li G e i).1 ≠ 0 → pg_er (pg_lA tk nx ln c) e i = y_li G e i := fun e i hh => by
    have := h.2 e i hh
    unfold pg_er y_li
    rw [this]
  have key := pg_D_m (D' := pg_er (pg_lD tk nx ln c)) (A' := pg_er (pg_lA tk nx ln c)) (hD _ _) (fun j _ => hD _ _) (hD _ _) (fun r _ _ => hD _ _) (hA _ _) (fun j _ => hA _ _) hz
  have e1 : (pg_D tk nx ln c (pg_lD tk nx ln c) (pg_lA tk nx ln c) e i).1 = (pg_D tk nx ln c (y_li T) (y_li G) e i).1 := by rw [pg_D_er, key]
  rw [pg_lD_fix (by rw [e1]; exact hz), e1]
theorem y_sA (h : y_S tk nx ln c T G) (hz : (pg_A (y_li T) (y_li G) e i).1 ≠ 0) : (pg_A (y_li T) (y_li G) e i).1 = (pg_lA tk nx ln c e i).1 := by
  have hD : ∀ e i, (y_li T e i).1 ≠ 0 → pg_er (pg_lD tk nx ln c) e i = y_li T e i := fun e i hh => by
    have := h.1 e i hh
    unfold pg_er y_li
    rw [this]
  have hA : ∀ e i, (y_li G e i).1 ≠ 0 → pg_er (pg_lA tk nx ln c) e i = y_li G e i := fun e i hh => by
    have := h.2 e i hh
    unfold pg_er y_li
    rw [this]
  have key := pg_A_m (D' := pg_er (pg_lD tk nx ln c)) (A' := pg_er (pg_lA tk nx ln c)) (hD _ _) (fun j _ => hA _ _) hz
  have e1 : (pg_A (pg_lD tk nx ln c) (pg_lA tk nx ln c) e i).1 = (pg_A (y_li T) (y_li G) e i).1 := by rw [pg_A_er, key]
  rw [pg_lA_fix (by rw [e1]; exact hz), e1]
theorem y_lb (hG : pg_G tk nx ln) (hN : ∀ x, N ≤ x → c x = 0) (he : pg_C nx ln e) (hi : i ≤ N) {j : Nat} (h : (pg_lD tk nx ln c e i).1 = j + 2) : i ≤ j ∧ j ≤ N := by
  obtain ⟨n, hn⟩ := pg_lD_ex (tk := tk) (nx := nx) (ln := ln) (c := c) (e := e) (i := i) (by omega)
  have := (pg_bd hG hN n e i he hi).1
  rw [hn] at this
  have := this (by omega)
  have := this.2.2 (by omega)
  omega
theorem y_lbA (hG : pg_G tk nx ln) (hN : ∀ x, N ≤ x → c x = 0) (he : pg_C nx ln e) (t : tk e = 12 ∨ tk e = 13) (hi : i ≤ N) (h : (pg_lA tk nx ln c e i).1 ≠ 0) : ∃ j, (pg_lA tk nx ln c e i).1 = j + 2 ∧ i ≤ j ∧ j ≤ N := by
  obtain ⟨n, hn⟩ := pg_lA_ex (tk := tk) (nx := nx) (ln := ln) (c := c) (e := e) (i := i) h
  obtain ⟨b1, b2⟩ := (pg_bd hG hN n e i he hi).2 t
  rw [hn] at b1 b2
  have b3 := b2 h
  have b4 := (b1 h).2.2 b3
  exact ⟨(pg_lA tk nx ln c e i).1 - 2, by omega, by omega, by omega⟩
theorem y_Tb (hG : pg_G tk nx ln) (hN : ∀ x, N ≤ x → c x = 0) (hS : y_S tk nx ln c T G) (he : pg_C nx ln e) (hi : i ≤ N) {j : Nat} (h : T e i = j + 2) : i ≤ j ∧ j ≤ N := by
  have := hS.1 e i (by omega)
  exact y_lb hG hN he hi (by omega)
end
theorem y_ix {e i : Nat} (he : e ≤ 47) (hi : i ≤ 16) : vp_in (17 * nI e + nI i) 816 ∧ (17 * nI e + nI i).toNatClampNeg = 17 * e + i ∧ 17 * nI e + nI i = nI (17 * e + i) := by
  have h : 17 * nI e + nI i = nI (17 * e + i) := by
    show nI 17 * nI e + nI i = _
    rw [pk_mul, nI_add]
  rw [h]
  exact ⟨xb_in (by omega) (by omega), xb_c (by omega), rfl⟩
section
variable {post : Int32 → Prop} {f_length f_tasks f_keptNodes : Int32} {a_tok a_len a_next a_text a_does a_again a_taskCell a_taskPlace a_taskDepth a_kept : Nat → Int32} {tk nx ln c : Nat → Nat} {N e i : Nat} {T G : Nat → Nat → Nat}
theorem y_36 {x z : Int32} (hN : N ≤ 16) (hi : i ≤ N) (h0 : ∀ x, N ≤ x → c x = 0) (hc : ∀ j, j < N → a_text j = nI (c j) ∧ 97 ≤ c j ∧ c j ≤ 122) (k : wY_follows_56 post (nI e) (nI i) x z (nI (c i)) (nI N) f_tasks f_keptNodes a_tok a_len a_next a_text a_does a_again a_taskCell a_taskPlace a_taskDepth a_kept) : wY_follows_36 post (nI e) (nI i) x z (nI N) f_tasks f_keptNodes a_tok a_len a_next a_text a_does a_again a_taskCell a_taskPlace a_taskDepth a_kept := by
  refine pk_le N i (fun h => ?_) (fun h => And.intro (xb_in (by omega) (by omega)) ?_)
  · rw [h0 i h] at k
    exact k
  · rw [xb_c (by omega), (hc i h).1]
    exact k
theorem yp_fol (hY : y_X f_length a_tok a_len a_next a_text tk nx ln c N) (hR : y_R tk nx ln N a_does a_again T G) (hS : y_S tk nx ln c T G) (he : pg_C nx ln e) (hi : i ≤ N)
    (k : post (y_en (pg_D tk nx ln c (y_li T) (y_li G) e i).1)) : wpY_follows post (f_length, f_tasks, f_keptNodes, a_tok, a_len, a_next, a_text, a_does, a_again, a_taskCell, a_taskPlace, a_taskDepth, a_kept) (nI e) (nI i) := by
  obtain ⟨hG, hN16, hlen, hN, hc, htk, hln⟩ := hY
  subst hlen
  have hs48 := pg_C_s hG he
  have hv := pg_C_v hG he
  have hcell : ∀ e', pg_C nx ln e' → a_tok e' = nI (tk e') ∧ tk e' < 128 ∧ a_next e' = nI (nx e') := fun e' h' => by
    obtain ⟨r, h1, h2, h3, _⟩ := h'
    obtain ⟨g1, g2, g3, _⟩ := htk r e' h1 h2 h3
    exact ⟨g1, g2, g3⟩
  have ie : vp_in (nI e) 60 := xb_in (by omega) (by omega)
  have ee : (nI e).toNatClampNeg = e := xb_c (by omega)
  have et := (hcell e he).1
  have eat : ∀ e', pg_C nx ln e' → ∀ i', i' ≤ N → vp_in (17 * nI e' + nI i') 816 ∧ a_does (17 * nI e' + nI i').toNatClampNeg = y_en (T e' i') := fun e' h' i' hi' => by
    have hs := pg_C_s hG h'
    obtain ⟨a1, a2, _⟩ := y_ix (e := e') (i := i') (by omega) (by omega)
    exact ⟨a1, by rw [a2]; exact hR.1 e' i' h' hi'⟩
  have gat : tk e = 12 ∨ tk e = 13 → ∀ i', i' ≤ N → vp_in (17 * nI e + nI i') 816 ∧ a_again (17 * nI e + nI i').toNatClampNeg = y_en (G e i') := fun t i' hi' => by
    obtain ⟨a1, a2, _⟩ := y_ix (e := e) (i := i') (by omega) (by omega)
    exact ⟨a1, by rw [a2]; exact hR.2 e i' he t hi'⟩
  have c128 : c i < 128 := by
    by_cases z : i < N
    · have := hc i z; omega
    · rw [hN i (by omega)]; omega
  -- tokens with an operand
  have opr : ∀ t : Nat, tk e = t → 10 ≤ t → t ≤ 16 → pg_C nx ln (e + 1) → wY_follows_56 post (nI e) (nI i) (nI t) (y_en (T (e + 1) i)) (nI (c i)) (nI N) f_tasks f_keptNodes a_tok a_len a_next a_text a_does a_again a_taskCell a_taskPlace a_taskDepth a_kept → wpY_follows post (nI N, f_tasks, f_keptNodes, a_tok, a_len, a_next, a_text, a_does, a_again, a_taskCell, a_taskPlace, a_taskDepth, a_kept) (nI e) (nI i) := by
    intro t ht h1 h2 h3 k1
    refine And.intro ie (nm_r (e' := nI t) (by rw [ee, et, ht]) (br_f (nI_nlt (b := 10) h1 (by omega)) (br_f (nI_nlt (a := 16) h2 (by omega)) ?_)))
    rw [nI_1 e]
    refine And.intro (eat (e + 1) h3 i hi).1 ?_
    rw [(eat (e + 1) h3 i hi).2]
    exact y_36 hN16 hi hN hc k1
  have nop : (tk e < 10 ∨ 16 < tk e) → wY_follows_56 post (nI e) (nI i) (nI (tk e)) 0 (nI (c i)) (nI N) f_tasks f_keptNodes a_tok a_len a_next a_text a_does a_again a_taskCell a_taskPlace a_taskDepth a_kept → wpY_follows post (nI N, f_tasks, f_keptNodes, a_tok, a_len, a_next, a_text, a_does, a_again, a_taskCell, a_taskPlace, a_taskDepth, a_kept) (nI e) (nI i) := by
    intro h1 k1
    have h128 := (hcell e he).2.1
    refine And.intro ie (nm_r (e' := nI (tk e)) (by rw [ee, et]) ?_)
    exact pk_lt (tk e) 10 (fun _ => y_36 hN16 hi hN hc k1) (fun y => pk_lt 16 (tk e) (fun _ => y_36 hN16 hi hN hc k1) (fun y' => absurd h1 (by omega)))
  have lf : ∀ g : Prop, (pg_gd tk (c i) e = true ↔ g) → (tk e = 1 ∨ tk e = 3 ∨ 24 ≤ tk e) → (g → post (nI i + 1)) ∧ (¬ g → post (-2)) := by
    intro g hg t
    rw [pg_D_l t] at k
    unfold pg_le at k
    constructor
    · intro y
      rw [if_pos (hg.mpr y)] at k
      rw [nI_1]
      exact k
    · intro y
      rw [if_neg (fun q => y (hg.mp q))] at k
      exact k
  rcases pg_tc hv.1 with t | t | t | t | t | t | t | t | ⟨r, hr, t⟩ | t
  · rw [pg_D_2 t] at k
    refine nop (by omega) ?_
    rw [t]
    exact br_f (by decide) (br_f (by decide) (br_f (by decide) (br_t rfl (k))))
  · -- 10
    obtain ⟨s1, s2, s3, s4, s5⟩ := pg_C_b hG he (Or.inl t)
    have i1 : vp_in (nI e + 1) 60 := by rw [nI_1]; have := pg_C_s hG s1; exact xb_in (by omega) (by omega)
    have n1 : a_next (nI e + 1).toNatClampNeg = nI (nx (e + 1)) := by rw [nI_1, xb_c (by omega)]; exact (hcell _ s1).2.2
    rw [pg_D_10 t] at k
    unfold y_li at k
    refine opr 10 t (by omega) (by omega) s1 ?_
    rcases hT : T (e + 1) i with _ | _ | j
    · rw [hT] at k
      exact br_f (by decide) (br_f (by decide) (br_f (by decide) (br_f (by decide) (br_f (by decide) (br_f (by decide) (br_f (by decide) (br_f (by decide) (br_f (by decide) (br_f (by decide) (br_f (by decide) (br_t rfl (br_f (by decide) k))))))))))))
    · rw [hT] at k
      exact br_f (by decide) (br_f (by decide) (br_f (by decide) (br_f (by decide) (br_f (by decide) (br_f (by decide) (br_f (by decide) (br_f (by decide) (br_f (by decide) (br_f (by decide) (br_f (by decide) (br_t rfl (br_f (by decide) k))))))))))))
    · rw [hT] at k
      have hb := y_Tb hG hN hS s1 hi hT
      have k' : post (y_en (T (nx (e + 1)) j)) := k
      have a := eat (nx (e + 1)) s2 j hb.2
      rw [y_en_2]
      refine br_f (by decide) (br_f (by decide) (br_f (by decide) (br_f (by decide) (br_f (by decide) (br_f (by decide) (br_f (by decide) (br_f (by decide) (br_f (by decide) (br_f (by decide) (br_f (by decide) (br_t rfl (br_t (nI_pos' (by omega)) (And.intro i1 ?_)))))))))))))
      rw [n1]
      refine And.intro a.1 ?_
      rw [a.2]
      exact k'
  · -- 11
    obtain ⟨s1, s2, s3, s4, s5⟩ := pg_C_b hG he (Or.inr t)
    have i1 : vp_in (nI e + 1) 60 := by rw [nI_1]; have := pg_C_s hG s1; exact xb_in (by omega) (by omega)
    have n1 : a_next (nI e + 1).toNatClampNeg = nI (nx (e + 1)) := by rw [nI_1, xb_c (by omega)]; exact (hcell _ s1).2.2
    rw [pg_D_11 t] at k
    unfold y_li at k
    refine opr 11 t (by omega) (by omega) s1 ?_
    rcases hT : T (e + 1) i with _ | _ | j
    · rw [hT] at k
      exact br_f (by decide) (br_f (by decide) (br_f (by decide) (br_f (by decide) (br_f (by decide) (br_f (by decide) (br_f (by decide) (br_f (by decide) (br_f (by decide) (br_f (by decide) (br_f (by decide) (br_f (by decide) (br_t rfl (br_f (by decide) k)))))))))))))
    · rw [hT] at k
      have k' : post (y_en (T (nx (e + 1)) i)) := k
      have a := eat (nx (e + 1)) s2 i hi
      refine br_f (by decide) (br_f (by decide) (br_f (by decide) (br_f (by decide) (br_f (by decide) (br_f (by decide) (br_f (by decide) (br_f (by decide) (br_f (by decide) (br_f (by decide) (br_f (by decide) (br_f (by decide) (br_t rfl (br_t rfl (And.intro i1 ?_))))))))))))))
      rw [n1]
      refine And.intro a.1 ?_
      rw [a.2]
      exact k'
    · rw [hT] at k
      have hb := y_Tb hG hN hS s1 hi hT
      rw [y_en_2]
      exact br_f (by decide) (br_f (by decide) (br_f (by decide) (br_f (by decide) (br_f (by decide) (br_f (by decide) (br_f (by decide) (br_f (by decide) (br_f (by decide) (br_f (by decide) (br_f (by decide) (br_f (by decide) (br_t rfl (br_f (y_ne2 (by omega)) k)))))))))))))
  · -- 12
    obtain ⟨s1, s2, s3⟩ := pg_C_u hG he (by omega)
    rw [pg_D_12 t] at k
    have k' : post (y_en (G e i)) := k
    have a := gat (Or.inl t) i hi
    refine opr 12 t (by omega) (by omega) s1 ?_
    refine br_f (by decide) (br_f (by decide) (br_f (by decide) (br_f (by decide) (br_f (by decide) (br_f (by decide) (br_f (by decide) (br_f (by decide) (br_f (by decide) (br_f (by decide) (br_f (by decide) (br_f (by decide) (br_f (by decide) (br_t rfl (And.intro a.1 ?_))))))))))))))
    rw [a.2]
    exact k'
  · -- 13
    obtain ⟨s1, s2, s3⟩ := pg_C_u hG he (by omega)
    rw [pg_D_13 t] at k
    unfold y_li at k
    refine opr 13 t (by omega) (by omega) s1 ?_
    rcases hT : T (e + 1) i with _ | _ | j
    · rw [hT] at k
      exact br_f (by decide) (br_f (by decide) (br_f (by decide) (br_f (by decide) (br_f (by decide) (br_f (by decide) (br_f (by decide) (br_f (by decide) (br_f (by decide) (br_f (by decide) (br_f (by decide) (br_f (by decide) (br_f (by decide) (br_f (by decide) (br_t rfl (br_f (by decide) k)))))))))))))))
    · rw [hT] at k
      exact br_f (by decide) (br_f (by decide) (br_f (by decide) (br_f (by decide) (br_f (by decide) (br_f (by decide) (br_f (by decide) (br_f (by decide) (br_f (by decide) (br_f (by decide) (br_f (by decide) (br_f (by decide) (br_f (by decide) (br_f (by decide) (br_t rfl (br_f (by decide) k)))))))))))))))
    · rw [hT] at k
      have hb := y_Tb hG hN hS s1 hi hT
      have k' : post (y_en (G e j)) := by
        by_cases hj : j = i
        · simp only [pg_pl, if_pos hj] at k
          exact k
        · simp only [pg_pl, if_neg hj] at k
          exact k
      have a := gat (Or.inr t) j hb.2
      rw [y_en_2]
      refine br_f (by decide) (br_f (by decide) (br_f (by decide) (br_f (by decide) (br_f (by decide) (br_f (by decide) (br_f (by decide) (br_f (by decide) (br_f (by decide) (br_f (by decide) (br_f (by decide) (br_f (by decide) (br_f (by decide) (br_f (by decide) (br_t rfl (br_t (nI_pos' (by omega)) (And.intro a.1 ?_))))))))))))))))
      rw [a.2]
      exact k'
  · -- 14
    obtain ⟨s1, s2, s3⟩ := pg_C_u hG he (by omega)
    rw [pg_D_14 t] at k
    unfold y_li at k
    refine opr 14 t (by omega) (by omega) s1 ?_
    rcases hT : T (e + 1) i with _ | _ | j
    · rw [hT] at k
      exact br_f (by decide) (br_f (by decide) (br_f (by decide) (br_f (by decide) (br_f (by decide) (br_f (by decide) (br_f (by decide) (br_f (by decide) (br_f (by decide) (br_f (by decide) (br_f (by decide) (br_f (by decide) (br_f (by decide) (br_f (by decide) (br_f (by decide) (br_t rfl (br_f (by decide) k))))))))))))))))
    · rw [hT] at k
      exact br_f (by decide) (br_f (by decide) (br_f (by decide) (br_f (by decide) (br_f (by decide) (br_f (by decide) (br_f (by decide) (br_f (by decide) (br_f (by decide) (br_f (by decide) (br_f (by decide) (br_f (by decide) (br_f (by decide) (br_f (by decide) (br_f (by decide) (br_t rfl (br_t rfl k))))))))))))))))
    · rw [hT] at k
      have hb := y_Tb hG hN hS s1 hi hT
      rw [y_en_2]
      exact br_f (by decide) (br_f (by decide) (br_f (by decide) (br_f (by decide) (br_f (by decide) (br_f (by decide) (br_f (by decide) (br_f (by decide) (br_f (by decide) (br_f (by decide) (br_f (by decide) (br_f (by decide) (br_f (by decide) (br_f (by decide) (br_f (by decide) (br_t rfl (br_f (y_ne2 (by omega)) k))))))))))))))))
  · -- 15
    obtain ⟨s1, s2, s3⟩ := pg_C_u hG he (by omega)
    rw [pg_D_15 t] at k
    unfold y_li at k
    refine opr 15 t (by omega) (by omega) s1 ?_
    rcases hT : T (e + 1) i with _ | _ | j
    · rw [hT] at k
      exact br_f (by decide) (br_f (by decide) (br_f (by decide) (br_f (by decide) (br_f (by decide) (br_f (by decide) (br_f (by decide) (br_f (by decide) (br_f (by decide) (br_f (by decide) (br_f (by decide) (br_f (by decide) (br_f (by decide) (br_f (by decide) (br_f (by decide) (br_f (by decide) (br_t rfl (br_f (by decide) k)))))))))))))))))
    · rw [hT] at k
      exact br_f (by decide) (br_f (by decide) (br_f (by decide) (br_f (by decide) (br_f (by decide) (br_f (by decide) (br_f (by decide) (br_f (by decide) (br_f (by decide) (br_f (by decide) (br_f (by decide) (br_f (by decide) (br_f (by decide) (br_f (by decide) (br_f (by decide) (br_f (by decide) (br_t rfl (br_f (by decide) k)))))))))))))))))
    · rw [hT] at k
      have hb := y_Tb hG hN hS s1 hi hT
      rw [y_en_2]
      exact br_f (by decide) (br_f (by decide) (br_f (by decide) (br_f (by decide) (br_f (by decide) (br_f (by decide) (br_f (by decide) (br_f (by decide) (br_f (by decide) (br_f (by decide) (br_f (by decide) (br_f (by decide) (br_f (by decide) (br_f (by decide) (br_f (by decide) (br_f (by decide) (br_t rfl (br_t (nI_pos' (by omega)) k)))))))))))))))))
  · -- 16
    obtain ⟨s1, s2, s3⟩ := pg_C_u hG he (by omega)
    rw [pg_D_16 t] at k
    unfold y_li at k
    refine opr 16 t (by omega) (by omega) s1 ?_
    rcases hT : T (e + 1) i with _ | _ | j
    · rw [hT] at k
      exact br_f (by decide) (br_f (by decide) (br_f (by decide) (br_f (by decide) (br_f (by decide) (br_f (by decide) (br_f (by decide) (br_f (by decide) (br_f (by decide) (br_f (by decide) (br_f (by decide) (br_f (by decide) (br_f (by decide) (br_f (by decide) (br_f (by decide) (br_f (by decide) (br_f (by decide) (br_t rfl (br_t rfl k))))))))))))))))))
    · rw [hT] at k
      exact br_f (by decide) (br_f (by decide) (br_f (by decide) (br_f (by decide) (br_f (by decide) (br_f (by decide) (br_f (by decide) (br_f (by decide) (br_f (by decide) (br_f (by decide) (br_f (by decide) (br_f (by decide) (br_f (by decide) (br_f (by decide) (br_f (by decide) (br_f (by decide) (br_f (by decide) (br_t rfl (br_f (by decide) (br_t rfl k)))))))))))))))))))
    · rw [hT] at k
      have hb := y_Tb hG hN hS s1 hi hT
      rw [y_en_2]
      exact br_f (by decide) (br_f (by decide) (br_f (by decide) (br_f (by decide) (br_f (by decide) (br_f (by decide) (br_f (by decide) (br_f (by decide) (br_f (by decide) (br_f (by decide) (br_f (by decide) (br_f (by decide) (br_f (by decide) (br_f (by decide) (br_f (by decide) (br_f (by decide) (br_f (by decide) (br_t rfl (br_f (y_ne3 (by omega)) (br_f (y_ne2 (by omega)) k)))))))))))))))))))
  · -- a call
    rw [pg_D_c hr t] at k
    have er : nI (20 + r) - 20 = nI r := by
      have := pk_sub (a := 20 + r) (b := 20) (by omega)
      rw [show 20 + r - 20 = r by omega] at this
      exact this
    have key : wY_follows_363 post (nI i) (nI (20 + r)) (nI N) f_tasks f_keptNodes a_tok a_len a_next a_text a_does a_again a_taskCell a_taskPlace a_taskDepth a_kept := by
      unfold wY_follows_363
      rw [er]
      refine And.intro (xb_in (by omega) (by omega)) ?_
      rw [xb_c (by omega), hln r hr]
      refine pk_eq (ln r) 0 (fun z => ?_) (fun z => ?_) rfl rfl (by have := (hG r hr).1; omega) (by omega)
      · rw [if_pos z] at k
        exact k
      · rw [if_neg z] at k
        have s1 := (pg_C_r hG hr z).1
        have ix : 204 * nI r + nI i = nI (17 * (12 * r) + i) := by
          show nI 204 * nI r + nI i = _
          rw [pk_mul, nI_add]
          exact congrArg nI (by omega)
        rw [ix, xb_c (by omega), hR.1 _ _ s1 hi]
        refine And.intro (xb_in (by omega) (by omega)) ?_
        unfold y_li at k
        rcases hT : T (12 * r) i with _ | _ | j
        · rw [hT] at k; exact k
        · rw [hT] at k; exact k
        · rw [hT] at k; exact k
    refine nop (by omega) ?_
    rw [t]
    rcases r with _ | _ | _ | _ | r
    · exact br_f (by decide) (br_f (by decide) (br_f (by decide) (br_f (by decide) (br_f (by decide) (br_f (by decide) (br_f (by decide) (br_f (by decide) (br_f (by decide) (br_f (by decide) (br_f (by decide) (br_f (by decide) (br_f (by decide) (br_f (by decide) (br_f (by decide) (br_f (by decide) (br_f (by decide) (br_f (by decide) (br_f (by decide) (br_f (by decide) (br_f (by decide) (br_t rfl (key))))))))))))))))))))))
    · exact br_f (by decide) (br_f (by decide) (br_f (by decide) (br_f (by decide) (br_f (by decide) (br_f (by decide) (br_f (by decide) (br_f (by decide) (br_f (by decide) (br_f (by decide) (br_f (by decide) (br_f (by decide) (br_f (by decide) (br_f (by decide) (br_f (by decide) (br_f (by decide) (br_f (by decide) (br_f (by decide) (br_f (by decide) (br_f (by decide) (br_f (by decide) (br_f (by decide) (br_t rfl (key)))))))))))))))))))))))
    · exact br_f (by decide) (br_f (by decide) (br_f (by decide) (br_f (by decide) (br_f (by decide) (br_f (by decide) (br_f (by decide) (br_f (by decide) (br_f (by decide) (br_f (by decide) (br_f (by decide) (br_f (by decide) (br_f (by decide) (br_f (by decide) (br_f (by decide) (br_f (by decide) (br_f (by decide) (br_f (by decide) (br_f (by decide) (br_f (by decide) (br_f (by decide) (br_f (by decide) (br_f (by decide) (br_t rfl (key))))))))))))))))))))))))
    · exact br_f (by decide) (br_f (by decide) (br_f (by decide) (br_f (by decide) (br_f (by decide) (br_f (by decide) (br_f (by decide) (br_f (by decide) (br_f (by decide) (br_f (by decide) (br_f (by decide) (br_f (by decide) (br_f (by decide) (br_f (by decide) (br_f (by decide) (br_f (by decide) (br_f (by decide) (br_f (by decide) (br_f (by decide) (br_f (by decide) (br_f (by decide) (br_f (by decide) (br_f (by decide) (br_f (by decide) (br_t rfl (key)))))))))))))))))))))))))
    · omega
  · -- a letter
    refine nop (by omega) ?_
    rcases t with t | t | t
    · obtain ⟨l1, l2⟩ := lf (0 < c i) (by unfold pg_gd; rw [if_pos t, decide_eq_true_iff]) (Or.inl t)
      rw [t]
      refine br_f (by decide) (br_f (by decide) (br_t rfl (pk_le (c i) 0 (fun y => l2 (by omega)) (fun y => l1 (by omega)))))
    · obtain ⟨_, t1, t2, t3, t4⟩ := hv.2.2.1 t
      obtain ⟨r, q1, q2, q3, q4⟩ := he
      obtain ⟨_, _, q5⟩ := hG r q1
      obtain ⟨_, _, q6, q7, _⟩ := q5 e q2 q3 q4
      have q8 := q7 t
      obtain ⟨u1, _, _⟩ := htk r (e + 1) q1 (by omega) (by omega)
      obtain ⟨u2, _, _⟩ := htk r (e + 2) q1 (by omega) (by omega)
      obtain ⟨l1, l2⟩ := lf (tk (e + 1) ≤ c i ∧ c i ≤ tk (e + 2)) (by unfold pg_gd; rw [if_neg (by omega), if_pos t, decide_eq_true_iff]) (Or.inr (Or.inl t))
      have e1 : nI e + 1 = nI (e + 1) := nI_1 e
      have e2 : nI e + 2 = nI (e + 2) := nI_add e 2
      rw [t]
      refine br_f (by decide) (br_f (by decide) (br_f (by decide) (br_f (by decide) (br_t rfl (And.intro ?_ (pk_lt (c i) (tk (e + 1)) (fun y => l2 (by omega)) (fun y => And.intro ?_ (pk_lt (tk (e + 2)) (c i) (fun y' => l2 (by omega)) (fun y' => l1 (by omega)) ?_)) rfl ?_))))))
      · rw [e1]; exact xb_in (by omega) (by omega)
      · rw [e2]; exact xb_in (by omega) (by omega)
      · rw [e2, xb_c (by omega), u2]
      · rw [e1, xb_c (by omega), u1]
    · obtain ⟨l1, l2⟩ := lf (c i = tk e) (by unfold pg_gd; rw [if_neg (by omega), if_neg (by omega), decide_eq_true_iff]) (Or.inr (Or.inr t))
      have h128 := (hcell e he).2.1
      exact pk_lt (tk e) 1 (fun y => absurd y (by omega)) (fun _ => pk_lt 23 (tk e) (fun _ => pk_eq (c i) (tk e) l1 l2) (fun y => absurd y (by omega)))
theorem yp_rep (hY : y_X f_length a_tok a_len a_next a_text tk nx ln c N) (hR : y_R tk nx ln N a_does a_again T G) (hS : y_S tk nx ln c T G) (he : pg_C nx ln e) (t : tk e = 12 ∨ tk e = 13) (hi : i ≤ N)
    (k : post (y_en (pg_A (y_li T) (y_li G) e i).1)) : wpY_repeats post (f_length, f_tasks, f_keptNodes, a_tok, a_len, a_next, a_text, a_does, a_again, a_taskCell, a_taskPlace, a_taskDepth, a_kept) (nI e) (nI i) := by
  obtain ⟨hG, hN16, hlen, hN, hc, htk, hln⟩ := hY
  obtain ⟨s1, s2, s3⟩ := pg_C_u hG he (by omega)
  have hs48 := pg_C_s hG s1
  obtain ⟨a1, a2, _⟩ := y_ix (e := e + 1) (i := i) (by omega) (by omega)
  have e1 : 17 * (nI e + 1) + nI i = 17 * nI (e + 1) + nI i := by rw [nI_1]
  have k1 : post (y_en (pg_ag i (y_li T (e + 1) i) (fun j => y_li G e j)).1) := k
  refine And.intro (by rw [e1]; exact a1) (nm_r (e' := y_en (T (e + 1) i)) (by rw [e1, a2]; exact hR.1 _ _ s1 hi) ?_)
  unfold y_li at k1
  rcases hT : T (e + 1) i with _ | _ | j
  · rw [hT] at k1
    exact br_t rfl k1
  · rw [hT] at k1
    exact br_f (by decide) (br_t rfl k1)
  · rw [hT] at k1
    have hb := y_Tb hG hN hS s1 hi hT
    rw [y_en_2]
    refine br_f (y_ne3 (by omega)) (br_f (y_ne2 (by omega)) (pk_eq j i (fun hj => ?_) (fun hj => ?_)))
    · simp only [pg_ag, if_pos hj] at k1
      exact k1
    · simp only [pg_ag, if_neg hj] at k1
      obtain ⟨b1, b2, _⟩ := y_ix (e := e) (i := j) (by have := pg_C_s hG he; omega) (by omega)
      refine And.intro b1 ?_
      rw [b2, hR.2 e j he t hb.2]
      exact k1
end
end
section
/-! the reference's table -/
def y_cz (a : Nat → Int32) : Nat → Nat
  | 0 => 0
  | q + 1 => y_cz a q + (if a q = -3 then 1 else 0)
theorem y_cz_o {a a' : Nat → Int32} : ∀ n, (∀ q, q < n → a' q = a q) → y_cz a' n = y_cz a n
  | 0, _ => rfl
  | n + 1, h => by
    show y_cz a' n + _ = y_cz a n + _
    rw [y_cz_o n (fun q hq => h q (by omega)), h n (by omega)]
theorem y_cz_d {a : Nat → Int32} {q : Nat} {v : Int32} (ha : a q = -3) (hv : v ≠ -3) : ∀ n, q < n → y_cz (upd a q v) n + 1 = y_cz a n
  | 0, h => absurd h (by omega)
  | n + 1, h => by
    show y_cz (upd a q v) n + _ + 1 = y_cz a n + _
    by_cases z : n = q
    · subst z
      rw [y_cz_o (a := a) n (fun x hx => pk_un (by omega)), pk_us, if_neg hv, if_pos ha]
    · have := y_cz_d ha hv n (by omega)
      rw [pk_un z]
      omega
theorem y_us {a : Nat → Int32} {q : Nat} {v : Int32} (h : a q = v) : upd a q v = a := by
  funext x
  by_cases z : x = q
  · subst z; rw [pk_us, h]
  · rw [pk_un z]
def y_up (T : Nat → Nat → Nat) (e i o : Nat) : Nat → Nat → Nat := fun e' i' => if e' = e ∧ i' = i then o else T e' i'
theorem y_en3 {o : Nat} (h : o ≤ 4000) : y_en o = -3 ↔ o = 0 := by
  constructor
  · intro z
    rcases o with _ | _ | j
    · rfl
    · exact absurd z (by decide)
    · exact absurd z (y_ne3 (by omega))
  · intro z; subst z; rfl
section
variable {tk nx ln c : Nat → Nat} {N e i : Nat} {T G : Nat → Nat → Nat} {does again : Nat → Int32}
theorem y_R_T {o : Nat} (hN : N ≤ 16) (hi : i ≤ N) (h : y_R tk nx ln N does again T G) : y_R tk nx ln N (upd does (17 * e + i) (y_en o)) again (y_up T e i o) G := by
  refine ⟨fun e' i' he' hi' => ?_, h.2⟩
  unfold y_up
  by_cases z : e' = e ∧ i' = i
  · rw [if_pos z, z.1, z.2, pk_us]
  · rw [if_neg z, pk_un (by omega)]
    exact h.1 e' i' he' hi'
theorem y_R_G {o : Nat} (hN : N ≤ 16) (hi : i ≤ N) (h : y_R tk nx ln N does again T G) : y_R tk nx ln N does (upd again (17 * e + i) (y_en o)) T (y_up G e i o) := by
  refine ⟨h.1, fun e' i' he' ht hi' => ?_⟩
  unfold y_up
  by_cases z : e' = e ∧ i' = i
  · rw [if_pos z, z.1, z.2, pk_us]
  · rw [if_neg z, pk_un (by omega)]
    exact h.2 e' i' he' ht hi'
theorem y_S_T (h : y_S tk nx ln c T G) {o : Nat} (ho : o = (pg_lD tk nx ln c e i).1) : y_S tk nx ln c (y_up T e i o) G := by
  refine ⟨fun e' i' hz => ?_, h.2⟩
  unfold y_up at hz ⊢
  by_cases z : e' = e ∧ i' = i
  · rw [if_pos z, z.1, z.2]; exact ho
  · rw [if_neg z] at hz ⊢; exact h.1 e' i' hz
theorem y_S_G (h : y_S tk nx ln c T G) {o : Nat} (ho : o = (pg_lA tk nx ln c e i).1) : y_S tk nx ln c T (y_up G e i o) := by
  refine ⟨h.1, fun e' i' hz => ?_⟩
  unfold y_up at hz ⊢
  by_cases z : e' = e ∧ i' = i
  · rw [if_pos z, z.1, z.2]; exact ho
  · rw [if_neg z] at hz ⊢; exact h.2 e' i' hz
def y_cl (tk nx ln c : Nat → Nat) (T G : Nat → Nat → Nat) (e i : Nat) : Prop := (T e i = 0 → (pg_D tk nx ln c (y_li T) (y_li G) e i).1 = 0) ∧ ((tk e = 12 ∨ tk e = 13) → G e i = 0 → (pg_A (y_li T) (y_li G) e i).1 = 0)
/-- monotone, by token -/
theorem pg_D_mt {D A D' A' : Nat → Nat → pg_R} (h1 : 10 ≤ tk e → tk e ≤ 16 → (D (e + 1) i).1 ≠ 0 → D' (e + 1) i = D (e + 1) i)
    (h2 : tk e = 10 → ∀ j, (D (e + 1) i).1 = j + 2 → (D (nx (e + 1)) j).1 ≠ 0 → D' (nx (e + 1)) j = D (nx (e + 1)) j)
    (h3 : tk e = 11 → (D (nx (e + 1)) i).1 ≠ 0 → D' (nx (e + 1)) i = D (nx (e + 1)) i)
    (h4 : ∀ r, r < 4 → tk e = 20 + r → ln r ≠ 0 → (D (12 * r) i).1 ≠ 0 → D' (12 * r) i = D (12 * r) i)
    (h5 : tk e = 12 → (A e i).1 ≠ 0 → A' e i = A e i)
    (h6 : tk e = 13 → ∀ j, (D (e + 1) i).1 = j + 2 → (A e j).1 ≠ 0 → A' e j = A e j)
    (h : (pg_D tk nx ln c D A e i).1 ≠ 0) : pg_D tk nx ln c D' A' e i = pg_D tk nx ln c D A e i := by
  rcases pg_cs (t := tk e) with t | t | t | t | t | t | t | t | ⟨r, hr, t⟩ | t | t
  · rw [pg_D_2 t, pg_D_2 t]
  · rw [pg_D_10 t] at h; rw [pg_D_10 t, pg_D_10 t]; exact pg_sq_m (h1 (by omega) (by omega)) (h2 t) h
  · rw [pg_D_11 t] at h; rw [pg_D_11 t, pg_D_11 t]; exact pg_ch_m (h1 (by omega) (by omega)) (h3 t) h
  · rw [pg_D_12 t] at h; rw [pg_D_12 t, pg_D_12 t]; exact pg_u_m (fun _ _ _ => rfl) (h5 t) h
  · rw [pg_D_13 t] at h; rw [pg_D_13 t, pg_D_13 t]; exact pg_pl_m (h1 (by omega) (by omega)) (h6 t) h
  · rw [pg_D_14 t] at h; rw [pg_D_14 t, pg_D_14 t]; exact pg_u_m (g := pg_op i) (fun _ _ _ => rfl) (h1 (by omega) (by omega)) h
  · rw [pg_D_15 t] at h; rw [pg_D_15 t, pg_D_15 t]; exact pg_u_m (g := pg_an i) (fun _ _ _ => rfl) (h1 (by omega) (by omega)) h
  · rw [pg_D_16 t] at h; rw [pg_D_16 t, pg_D_16 t]; exact pg_u_m (g := pg_nt i) (fun _ _ _ => rfl) (h1 (by omega) (by omega)) h
  · rw [pg_D_c hr t] at h; rw [pg_D_c hr t, pg_D_c hr t]
    by_cases hl : ln r = 0
    · rw [if_pos hl, if_pos hl]
    · rw [if_neg hl] at h; rw [if_neg hl, if_neg hl]; exact pg_u_m (g := pg_ca (17 * r + i)) (fun _ _ _ => rfl) (h4 r hr t hl) h
  · rw [pg_D_l t, pg_D_l t]
  · rw [pg_D_x t, pg_D_x t]
theorem y_comp (hG : pg_G tk nx ln) (hN : ∀ x, N ≤ x → c x = 0) (hS : y_S tk nx ln c T G) (hc : ∀ e, pg_C nx ln e → ∀ i, i ≤ N → y_cl tk nx ln c T G e i) (n : Nat) :
    ∀ e i, pg_C nx ln e → i ≤ N → (((pg_ev tk nx ln c n).1 e i).1 ≠ 0 → T e i ≠ 0) ∧ ((tk e = 12 ∨ tk e = 13) → ((pg_ev tk nx ln c n).2 e i).1 ≠ 0 → G e i ≠ 0) := by
  induction n with
  | zero => exact fun e i _ _ => ⟨fun h => absurd rfl h, fun _ h => absurd rfl h⟩
  | succ n ih =>
    have hD : ∀ e i, pg_C nx ln e → i ≤ N → (pg_er (pg_ev tk nx ln c n).1 e i).1 ≠ 0 → y_li T e i = pg_er (pg_ev tk nx ln c n).1 e i := fun e i he hi hz => by
      have h1 := (ih e i he hi).1 hz
      have h2 := hS.1 e i h1
      unfold y_li pg_er
      rw [h2, pg_lD_of hz]
    have hA : ∀ e i, pg_C nx ln e → (tk e = 12 ∨ tk e = 13) → i ≤ N → (pg_er (pg_ev tk nx ln c n).2 e i).1 ≠ 0 → y_li G e i = pg_er (pg_ev tk nx ln c n).2 e i := fun e i he t hi hz => by
      have h1 := (ih e i he hi).2 t hz
      have h2 := hS.2 e i h1
      unfold y_li pg_er
      rw [h2, pg_lA_of hz]
    have hb : ∀ e i j, pg_C nx ln e → i ≤ N → (pg_er (pg_ev tk nx ln c n).1 e i).1 = j + 2 → j ≤ N := fun e i j he hi hz => by
      have hz' : ((pg_ev tk nx ln c n).1 e i).1 = j + 2 := hz
      have := (pg_bd hG hN n e i he hi).1 (by omega)
      have := this.2.2 (by omega)
      omega
    intro e i he hi
    constructor
    · intro hz hT
      have hz1 : (pg_D tk nx ln c (pg_ev tk nx ln c n).1 (pg_ev tk nx ln c n).2 e i).1 ≠ 0 := hz
      rw [pg_D_er] at hz1
      have key : pg_D tk nx ln c (y_li T) (y_li G) e i = pg_D tk nx ln c (pg_er (pg_ev tk nx ln c n).1) (pg_er (pg_ev tk nx ln c n).2) e i := by
        refine pg_D_mt (fun t1 t2 => ?_) (fun t j hj => ?_) (fun t => ?_) (fun r hr t hl => ?_) (fun t => ?_) (fun t j hj => ?_) hz1
        · by_cases t : tk e = 10 ∨ tk e = 11
          · exact hD _ _ (pg_C_b hG he t).1 hi
          · exact hD _ _ (pg_C_u hG he (by omega)).1 hi
        · exact hD _ _ (pg_C_b hG he (Or.inl t)).2.1 (hb _ _ _ (pg_C_b hG he (Or.inl t)).1 hi hj)
        · exact hD _ _ (pg_C_b hG he (Or.inr t)).2.1 hi
        · exact hD _ _ (pg_C_r hG hr hl).1 hi
        · exact hA _ _ he (Or.inl t) hi
        · exact hA _ _ he (Or.inr t) (hb _ _ _ (pg_C_u hG he (by omega)).1 hi hj)
      have := (hc e he i hi).1 hT
      rw [key] at this
      exact hz1 this
    · intro t hz hT
      have hz1 : (pg_A (pg_ev tk nx ln c n).1 (pg_ev tk nx ln c n).2 e i).1 ≠ 0 := hz
      rw [pg_A_er] at hz1
      have s1 := (pg_C_u hG he (by omega)).1
      have key : pg_A (y_li T) (y_li G) e i = pg_A (pg_er (pg_ev tk nx ln c n).1) (pg_er (pg_ev tk nx ln c n).2) e i :=
        pg_A_m (hD _ _ s1 hi) (fun j hj => hA _ _ he t (hb _ _ _ s1 hi hj)) hz1
      have := (hc e he i hi).2 t hT
      rw [key] at this
      exact hz1 this
theorem y_full (hG : pg_G tk nx ln) (hN : ∀ x, N ≤ x → c x = 0) (hS : y_S tk nx ln c T G) (hc : ∀ e, pg_C nx ln e → ∀ i, i ≤ N → y_cl tk nx ln c T G e i) (he : pg_C nx ln e) (hi : i ≤ N) : T e i = (pg_lD tk nx ln c e i).1 := by
  by_cases z : T e i = 0
  · by_cases y : (pg_lD tk nx ln c e i).1 = 0
    · omega
    · obtain ⟨n, hn⟩ := pg_lD_ex y
      exact absurd z ((y_comp hG hN hS hc n e i he hi).1 (by rw [hn]; exact y))
  · exact hS.1 e i z
end
section
variable {f_length f_tasks f_keptNodes : Int32} {a_tok a_len a_next a_text a_does a_again a_taskCell a_taskPlace a_taskDepth a_kept : Nat → Int32} {tk nx ln c : Nat → Nat} {N e i : Nat} {T G : Nat → Nat → Nat}
theorem y_or {m : Nat} (hm : m ≤ 1) : nI m ||| 0 = nI m ∧ nI m ||| 1 = 1 := by
  rcases m with _ | _ | m
  · decide
  · decide
  · omega
theorem y_87 {post : Int32 → SY → Prop} {J4 : Int32 → Int32 → (Nat → Int32) → (Nat → Int32) → (Nat → Int32) → (Nat → Int32) → (Nat → Int32) → (Nat → Int32) → (Nat → Int32) → (Nat → Int32) → (Nat → Int32) → (Nat → Int32) → Prop} {m : Nat}
    (hY : y_X f_length a_tok a_len a_next a_text tk nx ln c N) (hR : y_R tk nx ln N a_does a_again T G) (hS : y_S tk nx ln c T G) (he : pg_C nx ln e) (hi : i ≤ N) (hm : m ≤ 1)
    (k : ∀ (m' : Nat) (T' : Nat → Nat → Nat) (does' : Nat → Int32), y_R tk nx ln N does' a_again T' G → y_S tk nx ln c T' G → ((m' = 1 ∧ y_cz does' 816 < y_cz a_does 816) ∨ (m' = m ∧ T' = T ∧ does' = a_does ∧ (T e i = 0 → (pg_D tk nx ln c (y_li T) (y_li G) e i).1 = 0))) → J4 (nI m') (nI (i + 1)) a_tok a_len a_next a_text does' a_again a_taskCell a_taskPlace a_taskDepth a_kept) :
    wY_fill_87 post J4 (nI e) (nI m) (nI i) (nI (17 * e + i)) f_length f_tasks f_keptNodes a_tok a_len a_next a_text a_does a_again a_taskCell a_taskPlace a_taskDepth a_kept := by
  have hN16 := hY.2.1
  have hG := hY.1
  have hs48 := pg_C_s hG he
  have ix : vp_in (nI (17 * e + i)) 816 := xb_in (by omega) (by omega)
  have ex : (nI (17 * e + i)).toNatClampNeg = 17 * e + i := xb_c (by omega)
  have hd := hR.1 e i he hi
  by_cases z : T e i = 0
  · rw [z, y_en_0] at hd
    refine And.intro ix (br_t (by rw [ex, hd]) (yp_fol hY hR hS he hi ?_))
    by_cases y : (pg_D tk nx ln c (y_li T) (y_li G) e i).1 = 0
    · rw [y, y_en_0]
      refine And.intro ix (nm_r (e' := a_does) (by rw [ex]; exact y_us hd) (And.intro ix (br_t (by rw [ex, hd]) (nm_r (y_or hm).1 (nm_r (nI_1 i) ?_)))))
      exact k m T a_does hR hS (Or.inr ⟨rfl, rfl, rfl, fun _ => y⟩)
    · have hv := y_sD hS y
      have hle : (pg_D tk nx ln c (y_li T) (y_li G) e i).1 ≤ 4000 := by
        rcases hq : (pg_D tk nx ln c (y_li T) (y_li G) e i).1 with _ | _ | j
        · omega
        · omega
        · have := y_lb hG hY.2.2.2.1 he hi (j := j) (by omega)
          omega
      have hne : y_en (pg_D tk nx ln c (y_li T) (y_li G) e i).1 ≠ -3 := fun q => y ((y_en3 hle).mp q)
      refine And.intro ix (nm_r (e' := upd a_does (17 * e + i) (y_en (pg_D tk nx ln c (y_li T) (y_li G) e i).1)) (by rw [ex]) (And.intro ix (br_f (by rw [ex, pk_us]; exact hne) (nm_r (y_or hm).2 (nm_r (nI_1 i) ?_)))))
      refine k 1 (y_up T e i (pg_D tk nx ln c (y_li T) (y_li G) e i).1) _ (y_R_T hN16 hi hR) (y_S_T hS hv) (Or.inl ⟨rfl, ?_⟩)
      have := y_cz_d hd hne 816 (by omega)
      omega
  · have hle : T e i ≤ 4000 := by
      rcases hq : T e i with _ | _ | j
      · omega
      · omega
      · have := y_Tb hG hY.2.2.2.1 hS he hi hq
        omega
    refine And.intro ix (br_f (by rw [ex, hd]; exact fun q => z ((y_en3 hle).mp q)) (nm_r (nI_1 i) ?_))
    exact k m T a_does hR hS (Or.inr ⟨rfl, rfl, rfl, fun q => absurd q z⟩)
theorem y_fill {post : Int32 → SY → Prop} {T0 G0 : Nat → Nat → Nat} {c0 : Nat} (hY : y_X f_length a_tok a_len a_next a_text tk nx ln c N) (he : pg_C nx ln e)
    (K : ∀ (m : Nat) (T G : Nat → Nat → Nat) (does again : Nat → Int32), y_R tk nx ln N does again T G → y_S tk nx ln c T G → ((m = 1 ∧ y_cz does 816 + y_cz again 816 < c0) ∨ (m = 0 ∧ T = T0 ∧ G = G0 ∧ y_cz does 816 + y_cz again 816 = c0 ∧ ∀ i', i' ≤ N → y_cl tk nx ln c T0 G0 e i')) → post (nI m) (f_length, f_tasks, f_keptNodes, a_tok, a_len, a_next, a_text, does, again, a_taskCell, a_taskPlace, a_taskDepth, a_kept)) :
    ∀ (d i m : Nat) (T G : Nat → Nat → Nat) (does again : Nat → Int32), i + d = N + 1 → y_R tk nx ln N does again T G → y_S tk nx ln c T G → ((m = 1 ∧ y_cz does 816 + y_cz again 816 < c0) ∨ (m = 0 ∧ T = T0 ∧ G = G0 ∧ y_cz does 816 + y_cz again 816 = c0 ∧ ∀ i', i' < i → y_cl tk nx ln c T0 G0 e i')) →
      wY_fill_4 post (nI e) f_length f_tasks f_keptNodes (d + 1) (nI m) (nI i) a_tok a_len a_next a_text does again a_taskCell a_taskPlace a_taskDepth a_kept := by
  have hN16 := hY.2.1
  have hG := hY.1
  have hs48 := pg_C_s hG he
  have hlen := hY.2.2.1
  have htok : a_tok e = nI (tk e) ∧ tk e < 128 := by
    obtain ⟨r, h1, h2, h3, _⟩ := he
    obtain ⟨g1, g2, _⟩ := hY.2.2.2.2.2.1 r e h1 h2 h3
    exact ⟨g1, g2⟩
  intro d
  induction d with
  | zero =>
    intro i m T G does again hd hR hS hI
    have hm : narrow .boolean (.int (nI m)) = .int (nI m) := by
      rcases hI with ⟨rfl, _⟩ | ⟨rfl, _⟩
      · rfl
      · rfl
    refine br_t (by rw [hlen]; exact nI_lt (by omega) (by omega)) (And.intro hm (K m T G does again hR hS ?_))
    rcases hI with h | ⟨h1, h2, h3, h4, h5⟩
    · exact Or.inl h
    · exact Or.inr ⟨h1, h2, h3, h4, fun i' hi' => h5 i' (by omega)⟩
  | succ d ih =>
    intro i m T G does again hd hR hS hI
    have hi : i ≤ N := by omega
    have hm : m ≤ 1 := by
      rcases hI with ⟨rfl, _⟩ | ⟨rfl, _⟩
      · exact Nat.le_refl 1
      · exact Nat.zero_le 1
    obtain ⟨ix, ex, ex2⟩ := y_ix (e := e) (i := i) (by omega) (by omega)
    rw [ex2] at ix ex
    have i60 : vp_in (nI e) 60 := xb_in (by omega) (by omega)
    have e60 : (nI e).toNatClampNeg = e := xb_c (by omega)
    refine br_f (by rw [hlen]; exact nI_nlt (by omega) (by omega)) (nm_r ex2 (And.intro ix ?_))
    -- the second half, from any state of the repetition table
    have half : ∀ (m1 : Nat) (G1 : Nat → Nat → Nat) (again1 : Nat → Int32), m1 ≤ 1 → y_R tk nx ln N does again1 T G1 → y_S tk nx ln c T G1 →
        ((m1 = 1 ∧ y_cz again1 816 < y_cz again 816) ∨ (m1 = m ∧ G1 = G ∧ again1 = again ∧ ((tk e = 12 ∨ tk e = 13) → G e i = 0 → (pg_A (y_li T) (y_li G) e i).1 = 0))) →
        wY_fill_87 post (wY_fill_4 post (nI e) f_length f_tasks f_keptNodes (d + 1)) (nI e) (nI m1) (nI i) (nI (17 * e + i)) f_length f_tasks f_keptNodes a_tok a_len a_next a_text does again1 a_taskCell a_taskPlace a_taskDepth a_kept := by
      intro m1 G1 again1 hm1 hR1 hS1 hI1
      refine y_87 hY hR1 hS1 he hi hm1 (fun m' T' does' hR' hS' hI' => ih (i + 1) m' T' G1 does' again1 (by omega) hR' hS' ?_)
      rcases hI1 with ⟨rfl, a2⟩ | ⟨rfl, rfl, rfl, a4⟩
      · refine Or.inl ?_
        have hc0 : y_cz does 816 + y_cz again 816 ≤ c0 := by
          rcases hI with ⟨_, b⟩ | ⟨_, _, _, b, _⟩
          · omega
          · omega
        rcases hI' with ⟨rfl, a⟩ | ⟨rfl, _, rfl, _⟩
        · exact ⟨rfl, by omega⟩
        · exact ⟨rfl, by omega⟩
      · rcases hI' with ⟨rfl, a⟩ | ⟨rfl, rfl, rfl, a5⟩
        · refine Or.inl ⟨rfl, ?_⟩
          rcases hI with ⟨_, b⟩ | ⟨_, _, _, b, _⟩
          · omega
          · omega
        · rcases hI with h | ⟨h1, h2, h3, h4, h5⟩
          · exact Or.inl h
          · refine Or.inr ⟨h1, h2, h3, h4, fun i' hi' => ?_⟩
            by_cases z : i' = i
            · subst z
              subst h2 h3
              exact ⟨a5, a4⟩
            · exact h5 i' (by omega)
    by_cases t : tk e = 12 ∨ tk e = 13
    · have ha := hR.2 e i he t hi
      by_cases g : G e i = 0
      · rw [g, y_en_0] at ha
        have run : wY_fill_54 post (wY_fill_4 post (nI e) f_length f_tasks f_keptNodes (d + 1)) (nI e) (nI m) (nI i) (nI (17 * e + i)) f_length f_tasks f_keptNodes a_tok a_len a_next a_text does again a_taskCell a_taskPlace a_taskDepth a_kept := by
          refine yp_rep hY hR hS he t hi ?_
          by_cases y : (pg_A (y_li T) (y_li G) e i).1 = 0
          · rw [y, y_en_0]
            refine And.intro ix (nm_r (e' := again) (by rw [ex]; exact y_us ha) (And.intro ix (br_t (by rw [ex, ha]) (nm_r (y_or hm).1 ?_))))
            exact half m G again hm hR hS (Or.inr ⟨rfl, rfl, rfl, fun _ _ => y⟩)
          · have hv := y_sA hS y
            obtain ⟨j, hj, hj1, hj2⟩ := y_lbA hG hY.2.2.2.1 he t hi (by rw [← hv]; exact y)
            have hne : y_en (pg_A (y_li T) (y_li G) e i).1 ≠ -3 := fun q => y ((y_en3 (by omega)).mp q)
            refine And.intro ix (nm_r (e' := upd again (17 * e + i) (y_en (pg_A (y_li T) (y_li G) e i).1)) (by rw [ex]) (And.intro ix (br_f (by rw [ex, pk_us]; exact hne) (nm_r (y_or hm).2 ?_))))
            refine half 1 (y_up G e i (pg_A (y_li T) (y_li G) e i).1) _ (Nat.le_refl 1) (y_R_G hY.2.1 hi hR) (y_S_G hS hv) (Or.inl ⟨rfl, ?_⟩)
            have := y_cz_d ha hne 816 (by omega)
            omega
        refine br_t (by rw [ex, ha]) (And.intro i60 ?_)
        rw [e60, htok.1]
        exact pk_eq (tk e) 12 (fun _ => run) (fun y => And.intro i60 (pk_eq (tk e) 13 (fun _ => run) (fun y' => absurd t (by omega))))
      · obtain ⟨j, hj, hj1, hj2⟩ := y_lbA hG hY.2.2.2.1 he t hi (by rw [← hS.2 e i g]; exact g)
        have hle : G e i ≤ 4000 := by have := hS.2 e i g; omega
        exact br_f (by rw [ex, ha]; exact fun q => g ((y_en3 hle).mp q)) (half m G again hm hR hS (Or.inr ⟨rfl, rfl, rfl, fun _ q => absurd q g⟩))
    · have fin := half m G again hm hR hS (Or.inr ⟨rfl, rfl, rfl, fun q => absurd q t⟩)
      refine br_c (fun _ => And.intro i60 ?_) (fun _ => fin)
      rw [e60, htok.1]
      exact pk_eq (tk e) 12 (fun y => absurd t (by omega)) (fun y => And.intro i60 (pk_eq (tk e) 13 (fun y' => absurd t (by omega)) (fun y' => fin)))
end
end
section
/-! the reference's table: passes until nothing follows -/
section
variable {f_length f_tasks f_keptNodes : Int32} {a_tok a_len a_next a_text a_does a_again a_taskCell a_taskPlace a_taskDepth a_kept : Nat → Int32} {tk nx ln c : Nat → Nat} {N : Nat}
theorem y_42 {post : SY → Prop} {J : Int32 → Int32 → Int32 → Int32 → (Nat → Int32) → (Nat → Int32) → (Nat → Int32) → (Nat → Int32) → (Nat → Int32) → (Nat → Int32) → (Nat → Int32) → (Nat → Int32) → (Nat → Int32) → (Nat → Int32) → Prop} {T0 G0 : Nat → Nat → Nat} {c0 : Nat} (hY : y_X f_length a_tok a_len a_next a_text tk nx ln c N)
    (K : ∀ (m : Nat) (T G : Nat → Nat → Nat) (does again : Nat → Int32), y_R tk nx ln N does again T G → y_S tk nx ln c T G → ((m = 1 ∧ y_cz does 816 + y_cz again 816 < c0) ∨ (m = 0 ∧ T = T0 ∧ G = G0 ∧ y_cz does 816 + y_cz again 816 = c0 ∧ ∀ e', pg_C nx ln e' → ∀ i', i' ≤ N → y_cl tk nx ln c T0 G0 e' i')) → J (nI m) f_length f_tasks f_keptNodes a_tok a_len a_next a_text does again a_taskCell a_taskPlace a_taskDepth a_kept) :
    ∀ (d m : Nat) (x2 : Int32) (T G : Nat → Nat → Nat) (does again : Nat → Int32), d ≤ 48 → x2 = nI d + (-1) → y_R tk nx ln N does again T G → y_S tk nx ln c T G → ((m = 1 ∧ y_cz does 816 + y_cz again 816 < c0) ∨ (m = 0 ∧ T = T0 ∧ G = G0 ∧ y_cz does 816 + y_cz again 816 = c0 ∧ ∀ e', d ≤ e' → pg_C nx ln e' → ∀ i', i' ≤ N → y_cl tk nx ln c T0 G0 e' i')) →
      wY_table_42 post J (d + 1) (nI m) x2 f_length f_tasks f_keptNodes a_tok a_len a_next a_text does again a_taskCell a_taskPlace a_taskDepth a_kept := by
  have hN16 := hY.2.1
  have hG := hY.1
  intro d
  induction d with
  | zero =>
    intro m x2 T G does again hd hx hR hS hI
    refine br_t (by rw [hx]; decide) (K m T G does again hR hS ?_)
    rcases hI with h | ⟨h1, h2, h3, h4, h5⟩
    · exact Or.inl h
    · exact Or.inr ⟨h1, h2, h3, h4, fun e' he' => h5 e' (Nat.zero_le _) he'⟩
  | succ d ih =>
    intro m x2 T G does again hd hx hR hS hI
    rw [pk_m1] at hx
    subst hx
    have ed : nI d / 12 = nI (d / 12) := pk_div (d := 12) (by omega) (by omega) (by omega)
    have em : nI d - nI d / 12 * 12 = nI (d % 12) := pk_rem (d := 12) (by omega) (by omega) (by omega)
    have hr : d / 12 < 4 := by omega
    have el : a_len (nI d / 12).toNatClampNeg = nI (ln (d / 12)) := by rw [ed, xb_c (by omega)]; exact hY.2.2.2.2.2.2 _ hr
    have hl12 := (hG (d / 12) hr).1
    have skip : ¬ pg_C nx ln d → wY_table_42 post J (d + 1) (nI m) (nI d + (-1)) f_length f_tasks f_keptNodes a_tok a_len a_next a_text does again a_taskCell a_taskPlace a_taskDepth a_kept := by
      intro hn
      refine ih m _ T G does again (by omega) rfl hR hS ?_
      rcases hI with h | ⟨h1, h2, h3, h4, h5⟩
      · exact Or.inl h
      · refine Or.inr ⟨h1, h2, h3, h4, fun e' he' hc' => ?_⟩
        by_cases z : e' = d
        · subst z; exact absurd hc' hn
        · exact h5 e' (by omega) hc'
    have hCr : ∀ r, 12 * r ≤ d → d < 12 * r + ln r → r < 4 → r = d / 12 := fun r h1 h2 h3 => by
      have := (hG r h3).1
      omega
    refine br_f (nI_pos (by omega)) (And.intro (by decide) (And.intro (by decide) (And.intro (by rw [ed]; exact xb_in (by omega) (by omega)) ?_)))
    rw [el, em]
    refine pk_le (ln (d / 12)) (d % 12) (fun y => nm_e (skip ?_)) (fun y => ?_)
    · rintro ⟨r, q1, q2, q3, _⟩
      have := hCr r q2 q3 q1
      subst this
      omega
    obtain ⟨t1, t2, t3, t4⟩ := hY.2.2.2.2.2.1 (d / 12) d hr (by omega) (by omega)
    refine And.intro (xb_in (by omega) (by omega)) ?_
    rw [xb_c (by omega), t3]
    refine pk_le (nx d) 0 (fun y' => nm_e (skip ?_)) (fun y' => ?_)
    · rintro ⟨r, q1, q2, q3, q4⟩
      omega
    have he : pg_C nx ln d := ⟨d / 12, hr, by omega, by omega, y'⟩
    refine ⟨_, y_fill (T0 := T) (G0 := G) (c0 := y_cz does 816 + y_cz again 816) hY he (fun m1 T1 G1 does1 again1 hR1 hS1 hI1 => ?_) (N + 1) 0 0 T G does again (by omega) hR hS (Or.inr ⟨rfl, rfl, rfl, rfl, fun i' hi' => absurd hi' (by omega)⟩)⟩
    have hc0 : y_cz does 816 + y_cz again 816 ≤ c0 := by
      rcases hI with ⟨_, b⟩ | ⟨_, _, _, b, _⟩
      · omega
      · omega
    rcases hI1 with ⟨rfl, a2⟩ | ⟨rfl, rfl, rfl, a4, a5⟩
    · exact br_f (by decide) (nm_e (ih 1 _ T1 G1 does1 again1 (by omega) rfl hR1 hS1 (Or.inl ⟨rfl, by omega⟩)))
    · refine br_t rfl (nm_e (ih m _ T1 G1 does1 again1 (by omega) rfl hR1 hS1 ?_))
      rcases hI with ⟨h1, h2⟩ | ⟨h1, h2, h3, h4, h5⟩
      · exact Or.inl ⟨h1, by omega⟩
      · refine Or.inr ⟨h1, h2, h3, by omega, fun e' he' hc' => ?_⟩
        by_cases z : e' = d
        · subst z
          subst h2 h3
          exact a5
        · exact h5 e' (by omega) hc'
theorem y_33 {post : SY → Prop} (hY : y_X f_length a_tok a_len a_next a_text tk nx ln c N)
    (K : ∀ (T : Nat → Nat → Nat) (does again : Nat → Int32), (∀ e i, pg_C nx ln e → i ≤ N → does (17 * e + i) = y_en (T e i) ∧ T e i = (pg_lD tk nx ln c e i).1) → post (f_length, f_tasks, f_keptNodes, a_tok, a_len, a_next, a_text, does, again, a_taskCell, a_taskPlace, a_taskDepth, a_kept)) :
    ∀ (f m : Nat) (T G : Nat → Nat → Nat) (does again : Nat → Int32), y_R tk nx ln N does again T G → y_S tk nx ln c T G → ((m = 1 ∧ y_cz does 816 + y_cz again 816 + 1 < f) ∨ (m = 0 ∧ 1 ≤ f ∧ ∀ e', pg_C nx ln e' → ∀ i', i' ≤ N → y_cl tk nx ln c T G e' i')) →
      wY_table_33 post f (nI m) f_length f_tasks f_keptNodes a_tok a_len a_next a_text does again a_taskCell a_taskPlace a_taskDepth a_kept := by
  intro f
  induction f with
  | zero =>
    intro m T G does again hR hS hI
    rcases hI with ⟨_, h⟩ | ⟨_, h, _⟩
    · omega
    · omega
  | succ f ih =>
    intro m T G does again hR hS hI
    rcases hI with ⟨rfl, h⟩ | ⟨rfl, _, h⟩
    · refine br_f (by decide) ⟨49, y_42 (T0 := T) (G0 := G) (c0 := y_cz does 816 + y_cz again 816) hY (fun m1 T1 G1 does1 again1 hR1 hS1 hI1 => ?_) 48 0 47 T G does again (Nat.le_refl _) (by decide) hR hS (Or.inr ⟨rfl, rfl, rfl, rfl, fun e' he' hc' => ?_⟩)⟩
      · refine ih m1 T1 G1 does1 again1 hR1 hS1 ?_
        rcases hI1 with ⟨h1, h2⟩ | ⟨h1, rfl, rfl, h4, h5⟩
        · exact Or.inl ⟨h1, by omega⟩
        · exact Or.inr ⟨h1, by omega, h5⟩
      · have := (pg_C_s hY.1 hc').1
        omega
    · exact br_t rfl (K T does again (fun e i he hi => ⟨hR.1 e i he hi, y_full hY.1 hY.2.2.2.1 hS h he hi⟩))
theorem y_t2 {post : SY → Prop} (hY : y_X f_length a_tok a_len a_next a_text tk nx ln c N)
    (K : ∀ (T : Nat → Nat → Nat) (does again : Nat → Int32), (∀ e i, pg_C nx ln e → i ≤ N → does (17 * e + i) = y_en (T e i) ∧ T e i = (pg_lD tk nx ln c e i).1) → post (f_length, f_tasks, f_keptNodes, a_tok, a_len, a_next, a_text, does, again, a_taskCell, a_taskPlace, a_taskDepth, a_kept)) :
    ∀ (d i : Nat) (does again : Nat → Int32), i + d = 816 → (∀ q, q < i → does q = -3 ∧ again q = -3) → wY_table_2 post f_length f_tasks f_keptNodes (d + 1) (nI i) a_tok a_len a_next a_text does again a_taskCell a_taskPlace a_taskDepth a_kept := by
  intro d
  induction d with
  | zero =>
    intro i does again hi hq
    obtain rfl : i = 816 := by omega
    refine br_t (by decide) ⟨_, y_33 hY K (y_cz does 816 + y_cz again 816 + 2) 1 (fun _ _ => 0) (fun _ _ => 0) does again ⟨fun e i he hi' => ?_, fun e i he _ hi' => ?_⟩ ⟨fun e i h => absurd rfl h, fun e i h => absurd rfl h⟩ (Or.inl ⟨rfl, by omega⟩)⟩
    · have := (pg_C_s hY.1 he).1
      have := hY.2.1
      exact (hq _ (by omega)).1
    · have := (pg_C_s hY.1 he).1
      have := hY.2.1
      exact (hq _ (by omega)).2
  | succ d ih =>
    intro i does again hi hq
    have ix : vp_in (nI i) 816 := xb_in (by omega) (by omega)
    have ex : (nI i).toNatClampNeg = i := xb_c (by omega)
    refine br_f (nI_ge (b := 816) (by omega) (by decide)) (And.intro ix (nm_r (e' := upd does i (-3)) (by rw [ex]) (And.intro ix (nm_r (e' := upd again i (-3)) (by rw [ex]) (nm_r (nI_1 i) (ih (i + 1) _ _ (by omega) (fun q hq' => ?_)))))))
    by_cases z : q = i
    · subst z; exact ⟨pk_us, pk_us⟩
    · rw [pk_un z, pk_un z]; exact hq q (by omega)
theorem yp_table {post : SY → Prop} (hY : y_X f_length a_tok a_len a_next a_text tk nx ln c N)
    (K : ∀ (does again : Nat → Int32), (∀ e i, pg_C nx ln e → i ≤ N → does (17 * e + i) = y_en (pg_lD tk nx ln c e i).1) → post (f_length, f_tasks, f_keptNodes, a_tok, a_len, a_next, a_text, does, again, a_taskCell, a_taskPlace, a_taskDepth, a_kept)) : wpY_table post (f_length, f_tasks, f_keptNodes, a_tok, a_len, a_next, a_text, a_does, a_again, a_taskCell, a_taskPlace, a_taskDepth, a_kept) :=
  ⟨817, y_t2 hY (fun T does again h => K does again (fun e i he hi => by rw [(h e i he hi).1, (h e i he hi).2])) 816 0 a_does a_again rfl (fun q h => absurd h (by omega))⟩
end
end
section
/-! the reference's tree -/
section
variable {tk nx ln c : Nat → Nat} {N e i : Nat}
theorem pg_lD_eq (h : (pg_lD tk nx ln c e i).1 ≠ 0) : pg_D tk nx ln c (pg_lD tk nx ln c) (pg_lA tk nx ln c) e i = pg_lD tk nx ln c e i := by
  obtain ⟨n, hn⟩ := pg_lD_ex h
  cases n with
  | zero =>
    rw [← hn] at h
    exact absurd rfl h
  | succ n =>
    have e1 : pg_D tk nx ln c (pg_ev tk nx ln c n).1 (pg_ev tk nx ln c n).2 e i = pg_lD tk nx ln c e i := hn
    rw [← e1]
    exact pg_D_m (fun z => pg_lD_of z) (fun j _ z => pg_lD_of z) (fun z => pg_lD_of z) (fun r _ _ z => pg_lD_of z) (fun z => pg_lA_of z) (fun j _ z => pg_lA_of z) (by rw [e1]; exact h)
theorem pg_lA_eq (h : (pg_lA tk nx ln c e i).1 ≠ 0) : pg_A (pg_lD tk nx ln c) (pg_lA tk nx ln c) e i = pg_lA tk nx ln c e i := by
  obtain ⟨n, hn⟩ := pg_lA_ex h
  cases n with
  | zero =>
    rw [← hn] at h
    exact absurd rfl h
  | succ n =>
    have e1 : pg_A (pg_ev tk nx ln c n).1 (pg_ev tk nx ln c n).2 e i = pg_lA tk nx ln c e i := hn
    rw [← e1]
    exact pg_A_m (fun z => pg_lD_of z) (fun j _ z => pg_lA_of z) (by rw [e1]; exact h)
/-- what a task stands for: rounds from here for a repetition -/
noncomputable def yt_res (tk nx ln c : Nat → Nat) (e i : Nat) : pg_R := if tk e = 12 ∨ tk e = 13 then pg_lA tk nx ln c e i else pg_lD tk nx ln c e i
theorem yt_res_of {j : Nat} (h : (pg_lD tk nx ln c e i).1 = j + 2) : (yt_res tk nx ln c e i).1 = j + 2 ∧ (yt_res tk nx ln c e i).2.2.2 = (pg_lD tk nx ln c e i).2.2.2 := by
  unfold yt_res
  by_cases t : tk e = 12 ∨ tk e = 13
  · rw [if_pos t]
    have e1 := pg_lD_eq (tk := tk) (nx := nx) (ln := ln) (c := c) (e := e) (i := i) (by omega)
    rcases t with t | t
    · rw [pg_D_12 t] at e1
      rw [← e1] at h ⊢
      exact ⟨h, rfl⟩
    · rw [pg_D_13 t] at e1
      rw [← e1] at h ⊢
      clear e1
      have h2 := pg_lA_fix (tk := tk) (nx := nx) (ln := ln) (c := c) (e := e) (i := i)
      unfold pg_A at h2
      revert h h2
      rcases pg_lD tk nx ln c (e + 1) i with ⟨_ | _ | a, w, k, p⟩
      · intro h
        exact absurd h (by show ¬ 0 = j + 2; omega)
      · intro h
        exact absurd h (by show ¬ 1 = j + 2; omega)
      · by_cases ha : a = i
        · simp only [pg_pl, pg_ag, if_pos ha]
          intro h h2
          have h3 := h2 (by omega)
          rw [ha] at h
          rw [h3] at h ⊢
          exact ⟨h, rfl⟩
        · simp only [pg_pl, pg_ag, if_neg ha]
          intro h h2
          have h3 := h2 (by omega)
          rw [h3]
          exact ⟨h, rfl⟩
  · rw [if_neg t]
    exact ⟨h, rfl⟩
end
def yt_s : Nat → Nat
  | 0 => 0
  | m + 1 => yt_s m + (m + 1)
theorem yt_s_m {a : Nat} : ∀ b, a ≤ b → yt_s a ≤ yt_s b
  | 0, h => by rw [show a = 0 by omega]; exact Nat.le_refl _
  | b + 1, h => by
    by_cases z : a = b + 1
    · rw [z]; exact Nat.le_refl _
    · have := yt_s_m (a := a) b (by omega)
      show yt_s a ≤ yt_s b + (b + 1)
      omega
def yt_v (m l : Nat) : Nat := m + yt_s m * l
theorem yt_v_sq {a b l1 l2 : Nat} : 1 + yt_v a l1 + yt_v b l2 ≤ yt_v (a + b + 1) (l1 + l2) := by
  unfold yt_v
  have h1 : yt_s a * l1 ≤ yt_s (a + b + 1) * l1 := Nat.mul_le_mul_right _ (yt_s_m _ (by omega))
  have h2 : yt_s b * l2 ≤ yt_s (a + b + 1) * l2 := Nat.mul_le_mul_right _ (yt_s_m _ (by omega))
  rw [Nat.mul_add]
  omega
theorem yt_v_u {a m l : Nat} (h : a < m) : 1 + yt_v a l ≤ yt_v m l := by
  unfold yt_v
  have h1 : yt_s a * l ≤ yt_s m * l := Nat.mul_le_mul_right _ (yt_s_m _ (by omega))
  omega
theorem yt_v_r {b l1 l2 : Nat} (h : 1 ≤ l1) : 1 + yt_v (b + 1) l2 + yt_v b l1 ≤ yt_v (b + 1) (l1 + l2) := by
  unfold yt_v
  have e : yt_s (b + 1) = yt_s b + (b + 1) := rfl
  rw [Nat.mul_add, e]
  have d1 : (yt_s b + (b + 1)) * l1 = yt_s b * l1 + (b + 1) * l1 := Nat.add_mul _ _ _
  have : (b + 1) * 1 ≤ (b + 1) * l1 := Nat.mul_le_mul_left _ h
  omega
theorem yt_v_b {m l : Nat} (hm : m ≤ 12) (hl : l ≤ 16) : yt_v m l ≤ 1260 := by
  have h : ((List.range 13).all fun m => (List.range 17).all fun l => decide (yt_v m l ≤ 1260)) = true := by decide +kernel
  exact of_decide_eq_true (pt_x2 h (show m < 13 by omega) (show l < 17 by omega))
abbrev yt_Tk : Type := Nat × Nat × Nat
def yt_T : List yt_Tk → (Nat → Int32) → (Nat → Int32) → (Nat → Int32) → Prop
  | [], _, _, _ => True
  | (e, i, d) :: R, tc, tp, td => (tc R.length = nI e ∧ tp R.length = nI i ∧ td R.length = nI d) ∧ yt_T R tc tp td
theorem yt_T_k {tc tp td tc' tp' td' : Nat → Int32} : ∀ (R : List yt_Tk), (∀ x, x < R.length → tc' x = tc x ∧ tp' x = tp x ∧ td' x = td x) → yt_T R tc tp td → yt_T R tc' tp' td'
  | [], _, _ => trivial
  | (e, i, d) :: R, h, hs => by
    obtain ⟨⟨h1, h2, h3⟩, h5⟩ := hs
    have hl : R.length < ((e, i, d) :: R).length := Nat.lt_succ_self _
    obtain ⟨e1, e2, e3⟩ := h R.length hl
    exact ⟨⟨e1.trans h1, e2.trans h2, e3.trans h3⟩, yt_T_k R (fun x hx => h x (Nat.lt_trans hx hl)) h5⟩
theorem yt_T_p {R : List yt_Tk} {tc tp td : Nat → Int32} {e i d : Nat} (h : yt_T R tc tp td) : yt_T ((e, i, d) :: R) (upd tc R.length (nI e)) (upd tp R.length (nI i)) (upd td R.length (nI d)) :=
  ⟨⟨pk_us, pk_us, pk_us⟩, yt_T_k R (fun x hx => ⟨pk_un (by omega), pk_un (by omega), pk_un (by omega)⟩) h⟩
def yt_K (Q : List (Nat × Nat × Nat)) (kp : Nat → Int32) : Prop := ∀ m z, Q[m]? = some z → kp (4 * m) = nI (z.1 / 17) ∧ kp (4 * m + 1) = nI (z.1 % 17) ∧ kp (4 * m + 2) = nI z.2.1 ∧ kp (4 * m + 3) = nI z.2.2
theorem yt_K_a {Q : List (Nat × Nat × Nat)} {kp : Nat → Int32} {z : Nat × Nat × Nat} (h : yt_K Q kp) : yt_K (Q ++ [z]) (upd (upd (upd (upd kp (4 * Q.length) (nI (z.1 / 17))) (4 * Q.length + 1) (nI (z.1 % 17))) (4 * Q.length + 2) (nI z.2.1)) (4 * Q.length + 3) (nI z.2.2)) := by
  intro m y hy
  by_cases q : m < Q.length
  · rw [List.getElem?_append_left q] at hy
    rw [pk_un (by omega), pk_un (by omega), pk_un (by omega), pk_un (by omega), pk_un (by omega), pk_un (by omega), pk_un (by omega), pk_un (by omega), pk_un (by omega), pk_un (by omega), pk_un (by omega), pk_un (by omega), pk_un (by omega), pk_un (by omega), pk_un (by omega), pk_un (by omega)]
    exact h m y hy
  · rw [List.getElem?_append_right (by omega)] at hy
    have hm : m = Q.length := by
      rcases Nat.lt_or_ge (m - Q.length) 1 with w | w
      · omega
      · rw [List.getElem?_eq_none (by simpa using w)] at hy
        exact absurd hy (by simp)
    subst hm
    rw [Nat.sub_self] at hy
    obtain rfl : z = y := by simpa using hy
    refine ⟨?_, ?_, ?_, pk_us⟩
    · rw [pk_un (by omega), pk_un (by omega), pk_un (by omega), pk_us]
    · rw [pk_un (by omega), pk_un (by omega), pk_us]
    · rw [pk_un (by omega), pk_us]
section
variable {P : SY → Prop} {f_length f_tasks f_keptNodes : Int32} {a_tok a_len a_next a_text a_does a_again a_taskCell a_taskPlace a_taskDepth a_kept : Nat → Int32}
theorem yp_task {s : Nat} {p0 p1 p2 : Int32} (hs : s < 400) (k : P (f_length, nI (s + 1), f_keptNodes, a_tok, a_len, a_next, a_text, a_does, a_again, upd a_taskCell s p0, upd a_taskPlace s p1, upd a_taskDepth s p2, a_kept)) : wpY_task P (f_length, nI s, f_keptNodes, a_tok, a_len, a_next, a_text, a_does, a_again, a_taskCell, a_taskPlace, a_taskDepth, a_kept) p0 p1 p2 := by
  have i : vp_in (nI s) 400 := xb_in hs (by omega)
  have e : (nI s).toNatClampNeg = s := xb_c (by omega)
  exact pk_eq s 400 (fun y => absurd y (by omega)) (fun _ => And.intro i (nm_r (e' := upd a_taskCell s p0) (by rw [e]) (And.intro i (nm_r (e' := upd a_taskPlace s p1) (by rw [e]) (And.intro i (nm_r (e' := upd a_taskDepth s p2) (by rw [e]) (nm_r (nI_1 s) k)))))))
theorem yp_keep {s : Nat} {p0 p1 p2 p3 : Int32} (hs : s < 30) (k : P (f_length, f_tasks, nI (s + 1), a_tok, a_len, a_next, a_text, a_does, a_again, a_taskCell, a_taskPlace, a_taskDepth, upd (upd (upd (upd a_kept (4 * s) p0) (4 * s + 1) p1) (4 * s + 2) p2) (4 * s + 3) p3)) : wpY_keep P (f_length, f_tasks, nI s, a_tok, a_len, a_next, a_text, a_does, a_again, a_taskCell, a_taskPlace, a_taskDepth, a_kept) p0 p1 p2 p3 := by
  have e0 : 4 * nI s = nI (4 * s) := pk_mul 4 s
  have e1 : nI (4 * s) + 1 = nI (4 * s + 1) := nI_1 _
  have e2 : nI (4 * s) + 2 = nI (4 * s + 2) := nI_add _ 2
  have e3 : nI (4 * s) + 3 = nI (4 * s + 3) := nI_add _ 3
  refine nm_r e0 (And.intro (xb_in (by omega) (by omega)) (nm_r (e' := upd a_kept (4 * s) p0) (by rw [xb_c (by omega)]) (And.intro (by rw [e1]; exact xb_in (by omega) (by omega)) (nm_r (e' := upd (upd a_kept (4 * s) p0) (4 * s + 1) p1) (by rw [e1, xb_c (by omega)]) (And.intro (by rw [e2]; exact xb_in (by omega) (by omega)) (nm_r (e' := upd (upd (upd a_kept (4 * s) p0) (4 * s + 1) p1) (4 * s + 2) p2) (by rw [e2, xb_c (by omega)]) (And.intro (by rw [e3]; exact xb_in (by omega) (by omega)) (nm_r (e' := upd (upd (upd (upd a_kept (4 * s) p0) (4 * s + 1) p1) (4 * s + 2) p2) (4 * s + 3) p3) (by rw [e3, xb_c (by omega)]) (nm_r (nI_1 s) k)))))))))
end
end
section
/-! the reference's visits -/
def yt_ok (tk nx ln c : Nat → Nat) (N M : Nat) (t : yt_Tk) : Prop := pg_C nx ln t.1 ∧ t.2.1 ≤ N ∧ (∃ j, (yt_res tk nx ln c t.1 t.2.1).1 = j + 2 ∧ t.2.1 ≤ j ∧ j ≤ N) ∧ ∀ x ∈ (yt_res tk nx ln c t.1 t.2.1).2.2.2, tr_ok tk nx ln c N M x
noncomputable def yt_l (tk nx ln c : Nat → Nat) (e i : Nat) : Nat := (yt_res tk nx ln c e i).1 - 2 - i
noncomputable def yt_mu (tk nx ln c : Nat → Nat) : List yt_Tk → Nat
  | [] => 0
  | t :: R => yt_v (nx t.1 - t.1) (yt_l tk nx ln c t.1 t.2.1) + yt_mu tk nx ln c R
def yt_h (nx : Nat → Nat) (q : Nat) : List yt_Tk → Prop
  | [] => True
  | t :: R => R.length + (nx t.1 - t.1) ≤ 12 * q ∧ yt_h nx q R
theorem yt_h_m {nx : Nat → Nat} {q q' : Nat} (h : q ≤ q') : ∀ R, yt_h nx q R → yt_h nx q' R
  | [], _ => trivial
  | t :: R, ⟨h1, h2⟩ => ⟨by omega, yt_h_m h R h2⟩
noncomputable def yt_em (tk nx ln c : Nat → Nat) (M : Nat) (t : yt_Tk) : List (Nat × Nat × Nat) := (yt_res tk nx ln c t.1 t.2.1).2.2.2.flatMap (tr_pre (tr_ch tk nx ln c) M t.2.2)
section
variable {tk nx ln c : Nat → Nat} {N M e i d : Nat}
theorem yt_sub (hG : pg_G tk nx ln) (hN : ∀ x, N ≤ x → c x = 0) (he : pg_C nx ln e) (hi : i ≤ N) {j : Nat} (h : (pg_lD tk nx ln c e i).1 = j + 2) (hp : ∀ x ∈ (pg_lD tk nx ln c e i).2.2.2, tr_ok tk nx ln c N M x) :
    yt_ok tk nx ln c N M (e, i, d) ∧ yt_em tk nx ln c M (e, i, d) = (pg_lD tk nx ln c e i).2.2.2.flatMap (tr_pre (tr_ch tk nx ln c) M d) ∧ yt_l tk nx ln c e i = j - i ∧ i ≤ j ∧ j ≤ N := by
  have hb := y_lb hG hN he hi h
  obtain ⟨r1, r2⟩ := yt_res_of h
  refine ⟨⟨he, hi, ⟨j, r1, hb.1, hb.2⟩, ?_⟩, ?_, ?_, hb.1, hb.2⟩
  · show ∀ x ∈ (yt_res tk nx ln c e i).2.2.2, _
    rw [r2]; exact hp
  · unfold yt_em
    show (yt_res tk nx ln c e i).2.2.2.flatMap _ = _
    rw [r2]
  · unfold yt_l
    rw [r1]
    omega
theorem yt_subA (hG : pg_G tk nx ln) (hN : ∀ x, N ≤ x → c x = 0) (he : pg_C nx ln e) (t : tk e = 12 ∨ tk e = 13) (hi : i ≤ N) {j : Nat} (h : (pg_lA tk nx ln c e i).1 = j + 2) (hp : ∀ x ∈ (pg_lA tk nx ln c e i).2.2.2, tr_ok tk nx ln c N M x) :
    yt_ok tk nx ln c N M (e, i, d) ∧ yt_em tk nx ln c M (e, i, d) = (pg_lA tk nx ln c e i).2.2.2.flatMap (tr_pre (tr_ch tk nx ln c) M d) ∧ yt_l tk nx ln c e i = j - i ∧ i ≤ j ∧ j ≤ N := by
  obtain ⟨j', hj', hb⟩ := y_lbA hG hN he t hi (by omega)
  obtain rfl : j' = j := by omega
  have e1 : yt_res tk nx ln c e i = pg_lA tk nx ln c e i := if_pos t
  refine ⟨⟨he, hi, ⟨j', by rw [← h]; exact congrArg _ e1, hb.1, hb.2⟩, ?_⟩, ?_, ?_, hb.1, hb.2⟩
  · show ∀ x ∈ (yt_res tk nx ln c e i).2.2.2, _
    rw [e1]; exact hp
  · unfold yt_em
    show (yt_res tk nx ln c e i).2.2.2.flatMap _ = _
    rw [e1]
  · unfold yt_l
    rw [e1, h]
    omega
end
section
variable {P : SY → Prop} {f_length f_tasks f_keptNodes : Int32} {a_tok a_len a_next a_text a_does a_again a_taskCell a_taskPlace a_taskDepth a_kept : Nat → Int32} {tk nx ln c : Nat → Nat} {N M e i d : Nat} {R : List yt_Tk} {Q : List (Nat × Nat × Nat)}
theorem yt_p0 (hT : yt_T R a_taskCell a_taskPlace a_taskDepth) (hK : yt_K Q a_kept) (hokR : ∀ t, t ∈ R → yt_ok tk nx ln c N M t) (hh : yt_h nx Q.length ((e, i, d) :: R)) (hQ : Q.length < 30) (hm : e < nx e) (hem : yt_em tk nx ln c M (e, i, d) = [])
    (k : ∀ (TS' : List yt_Tk) (Q' : List (Nat × Nat × Nat)) (tc' tp' td' kp' : Nat → Int32), yt_T TS' tc' tp' td' → yt_K Q' kp' → (∀ t, t ∈ TS' → yt_ok tk nx ln c N M t) → yt_h nx Q'.length TS' → Q'.length ≤ 30 → Q' ++ TS'.flatMap (yt_em tk nx ln c M) = Q ++ ((e, i, d) :: R).flatMap (yt_em tk nx ln c M) → yt_mu tk nx ln c TS' + 1300 * (30 - Q'.length) + 1 ≤ yt_mu tk nx ln c ((e, i, d) :: R) + 1300 * (30 - Q.length) → P (f_length, nI TS'.length, nI Q'.length, a_tok, a_len, a_next, a_text, a_does, a_again, tc', tp', td', kp')) : P (f_length, nI R.length, nI Q.length, a_tok, a_len, a_next, a_text, a_does, a_again, a_taskCell, a_taskPlace, a_taskDepth, a_kept) := by
  refine k R Q _ _ _ _ hT hK hokR hh.2 (by omega) ?_ ?_
  · rw [List.flatMap_cons, hem, List.nil_append]
  · show _ ≤ yt_v (nx e - e) _ + _ + _
    unfold yt_v
    omega
theorem yt_p1 {e1 i1 d1 : Nat} (hsz : 1 ≤ nx e - e) (hT : yt_T R a_taskCell a_taskPlace a_taskDepth) (hK : yt_K Q a_kept) (hokR : ∀ t, t ∈ R → yt_ok tk nx ln c N M t) (hh : yt_h nx Q.length ((e, i, d) :: R)) (hQ : Q.length < 30) (hok1 : yt_ok tk nx ln c N M (e1, i1, d1)) (hs : nx e1 - e1 ≤ nx e - e) (hem : yt_em tk nx ln c M (e1, i1, d1) = yt_em tk nx ln c M (e, i, d)) (hv : 1 + yt_v (nx e1 - e1) (yt_l tk nx ln c e1 i1) ≤ yt_v (nx e - e) (yt_l tk nx ln c e i))
    (k : ∀ (TS' : List yt_Tk) (Q' : List (Nat × Nat × Nat)) (tc' tp' td' kp' : Nat → Int32), yt_T TS' tc' tp' td' → yt_K Q' kp' → (∀ t, t ∈ TS' → yt_ok tk nx ln c N M t) → yt_h nx Q'.length TS' → Q'.length ≤ 30 → Q' ++ TS'.flatMap (yt_em tk nx ln c M) = Q ++ ((e, i, d) :: R).flatMap (yt_em tk nx ln c M) → yt_mu tk nx ln c TS' + 1300 * (30 - Q'.length) + 1 ≤ yt_mu tk nx ln c ((e, i, d) :: R) + 1300 * (30 - Q.length) → P (f_length, nI TS'.length, nI Q'.length, a_tok, a_len, a_next, a_text, a_does, a_again, tc', tp', td', kp')) : wpY_task P (f_length, nI R.length, nI Q.length, a_tok, a_len, a_next, a_text, a_does, a_again, a_taskCell, a_taskPlace, a_taskDepth, a_kept) (nI e1) (nI i1) (nI d1) := by
  obtain ⟨h1, h2⟩ := hh
  simp only at h1
  have hpos : 1 ≤ nx e - e := hsz
  refine yp_task (by omega) (k ((e1, i1, d1) :: R) Q _ _ _ _ (yt_T_p hT) hK (fun t ht => ?_) ⟨by simp only; omega, h2⟩ (by omega) ?_ ?_)
  · rcases List.mem_cons.mp ht with y | y
    · rw [y]; exact hok1
    · exact hokR t y
  · rw [List.flatMap_cons, List.flatMap_cons, hem]
  · show yt_v (nx e1 - e1) _ + _ + _ + 1 ≤ yt_v (nx e - e) _ + _ + _
    simp only
    omega
theorem yt_p2 {e1 i1 d1 e2 i2 d2 : Nat} {Pm : SY → Prop} (hsz : 1 ≤ nx e - e) (hT : yt_T R a_taskCell a_taskPlace a_taskDepth) (hK : yt_K Q a_kept) (hokR : ∀ t, t ∈ R → yt_ok tk nx ln c N M t) (hh : yt_h nx Q.length ((e, i, d) :: R)) (hQ : Q.length < 30) (hok1 : yt_ok tk nx ln c N M (e1, i1, d1)) (hok2 : yt_ok tk nx ln c N M (e2, i2, d2)) (hs2 : nx e2 - e2 ≤ nx e - e) (hs1 : 1 ≤ nx e1 - e1) (hs : nx e1 - e1 + 1 ≤ nx e - e) (hem : yt_em tk nx ln c M (e1, i1, d1) ++ yt_em tk nx ln c M (e2, i2, d2) = yt_em tk nx ln c M (e, i, d)) (hv : 1 + yt_v (nx e2 - e2) (yt_l tk nx ln c e2 i2) + yt_v (nx e1 - e1) (yt_l tk nx ln c e1 i1) ≤ yt_v (nx e - e) (yt_l tk nx ln c e i))
    (hPm : ∀ tc tp td : Nat → Int32, wpY_task P (f_length, nI (R.length + 1), nI Q.length, a_tok, a_len, a_next, a_text, a_does, a_again, tc, tp, td, a_kept) (nI e1) (nI i1) (nI d1) → Pm (f_length, nI (R.length + 1), nI Q.length, a_tok, a_len, a_next, a_text, a_does, a_again, tc, tp, td, a_kept))
    (k : ∀ (TS' : List yt_Tk) (Q' : List (Nat × Nat × Nat)) (tc' tp' td' kp' : Nat → Int32), yt_T TS' tc' tp' td' → yt_K Q' kp' → (∀ t, t ∈ TS' → yt_ok tk nx ln c N M t) → yt_h nx Q'.length TS' → Q'.length ≤ 30 → Q' ++ TS'.flatMap (yt_em tk nx ln c M) = Q ++ ((e, i, d) :: R).flatMap (yt_em tk nx ln c M) → yt_mu tk nx ln c TS' + 1300 * (30 - Q'.length) + 1 ≤ yt_mu tk nx ln c ((e, i, d) :: R) + 1300 * (30 - Q.length) → P (f_length, nI TS'.length, nI Q'.length, a_tok, a_len, a_next, a_text, a_does, a_again, tc', tp', td', kp')) : wpY_task Pm (f_length, nI R.length, nI Q.length, a_tok, a_len, a_next, a_text, a_does, a_again, a_taskCell, a_taskPlace, a_taskDepth, a_kept) (nI e2) (nI i2) (nI d2) := by
  obtain ⟨h1, h2⟩ := hh
  simp only at h1
  refine yp_task (by omega) (hPm _ _ _ (yp_task (by omega) (k ((e1, i1, d1) :: (e2, i2, d2) :: R) Q _ _ _ _ (yt_T_p (R := (e2, i2, d2) :: R) (yt_T_p hT)) hK (fun t ht => ?_) ⟨?_, ?_, h2⟩ (by omega) ?_ ?_)))
  · rcases List.mem_cons.mp ht with y | y
    · rw [y]; exact hok1
    · rcases List.mem_cons.mp y with y | y
      · rw [y]; exact hok2
      · exact hokR t y
  · show R.length + 1 + (nx e1 - e1) ≤ _
    omega
  · show R.length + (nx e2 - e2) ≤ _
    omega
  · rw [List.flatMap_cons, List.flatMap_cons, List.flatMap_cons, ← hem, List.append_assoc]
  · show yt_v (nx e1 - e1) _ + (yt_v (nx e2 - e2) _ + _) + _ + 1 ≤ yt_v (nx e - e) _ + _ + _
    simp only
    omega
end
end
section
/-! the reference's tree: a visit, the loop, the parse -/
section
variable {P : SY → Prop} {f_length f_tasks f_keptNodes : Int32} {a_tok a_len a_next a_text a_does a_again a_taskCell a_taskPlace a_taskDepth a_kept : Nat → Int32} {tk nx ln c : Nat → Nat} {N M e i d : Nat} {R : List yt_Tk} {Q : List (Nat × Nat × Nat)}
theorem yp_visit (hY : y_X f_length a_tok a_len a_next a_text tk nx ln c N) (hD : ∀ e i, pg_C nx ln e → i ≤ N → a_does (17 * e + i) = y_en (pg_lD tk nx ln c e i).1)
    (hok : yt_ok tk nx ln c N M (e, i, d)) (hokR : ∀ t, t ∈ R → yt_ok tk nx ln c N M t) (hh : yt_h nx Q.length ((e, i, d) :: R)) (hQ : Q.length < 30) (hT : yt_T R a_taskCell a_taskPlace a_taskDepth) (hK : yt_K Q a_kept)
    (k : ∀ (TS' : List yt_Tk) (Q' : List (Nat × Nat × Nat)) (tc' tp' td' kp' : Nat → Int32), yt_T TS' tc' tp' td' → yt_K Q' kp' → (∀ t, t ∈ TS' → yt_ok tk nx ln c N M t) → yt_h nx Q'.length TS' → Q'.length ≤ 30 → Q' ++ TS'.flatMap (yt_em tk nx ln c M) = Q ++ ((e, i, d) :: R).flatMap (yt_em tk nx ln c M) → yt_mu tk nx ln c TS' + 1300 * (30 - Q'.length) + 1 ≤ yt_mu tk nx ln c ((e, i, d) :: R) + 1300 * (30 - Q.length) → P (f_length, nI TS'.length, nI Q'.length, a_tok, a_len, a_next, a_text, a_does, a_again, tc', tp', td', kp')) : wpY_visit P (f_length, nI R.length, nI Q.length, a_tok, a_len, a_next, a_text, a_does, a_again, a_taskCell, a_taskPlace, a_taskDepth, a_kept) (nI e) (nI i) (nI d) := by
  obtain ⟨hG, hN16, hlen, hN, hc, htk, hln⟩ := hY
  obtain ⟨he, hi, ⟨j, hj, hij, hjN⟩, hp⟩ := hok
  simp only at he hi hj hij hp
  have hs48 := pg_C_s hG he
  have hv := pg_C_v hG he
  have hsz : 1 ≤ nx e - e := by omega
  have hcell : ∀ e', pg_C nx ln e' → a_tok e' = nI (tk e') ∧ tk e' < 128 ∧ a_next e' = nI (nx e') := fun e' h' => by
    obtain ⟨r, h1, h2, h3, _⟩ := h'
    obtain ⟨g1, g2, g3, _⟩ := htk r e' h1 h2 h3
    exact ⟨g1, g2, g3⟩
  have ie : vp_in (nI e) 60 := xb_in (by omega) (by omega)
  have ee : (nI e).toNatClampNeg = e := xb_c (by omega)
  have et := (hcell e he).1
  have h128 := (hcell e he).2.1
  have hl : yt_l tk nx ln c e i = j - i := by unfold yt_l; rw [hj]; omega
  have hemE : yt_em tk nx ln c M (e, i, d) = (yt_res tk nx ln c e i).2.2.2.flatMap (tr_pre (tr_ch tk nx ln c) M d) := rfl
  -- tokens with an operand
  have opr : ∀ t : Nat, tk e = t → 10 ≤ t → t ≤ 16 → pg_C nx ln (e + 1) → wY_visit_40 P (nI e) (nI i) (nI d) (nI t) (y_en (pg_lD tk nx ln c (e + 1) i).1) f_length (nI R.length) (nI Q.length) a_tok a_len a_next a_text a_does a_again a_taskCell a_taskPlace a_taskDepth a_kept → wpY_visit P (f_length, nI R.length, nI Q.length, a_tok, a_len, a_next, a_text, a_does, a_again, a_taskCell, a_taskPlace, a_taskDepth, a_kept) (nI e) (nI i) (nI d) := by
    intro t ht h1 h2 h3 k1
    have hs := pg_C_s hG h3
    obtain ⟨a1, a2, _⟩ := y_ix (e := e + 1) (i := i) (by omega) (by omega)
    refine And.intro ie (nm_r (e' := nI t) (by rw [ee, et, ht]) (br_f (nI_nlt (b := 10) h1 (by omega)) (br_f (nI_nlt (a := 16) h2 (by omega)) ?_)))
    rw [nI_1 e]
    refine And.intro a1 ?_
    rw [a2, hD _ _ h3 hi]
    exact k1
  have nop : (tk e < 10 ∨ 16 < tk e) → wY_visit_40 P (nI e) (nI i) (nI d) (nI (tk e)) (-2) f_length (nI R.length) (nI Q.length) a_tok a_len a_next a_text a_does a_again a_taskCell a_taskPlace a_taskDepth a_kept → wpY_visit P (f_length, nI R.length, nI Q.length, a_tok, a_len, a_next, a_text, a_does, a_again, a_taskCell, a_taskPlace, a_taskDepth, a_kept) (nI e) (nI i) (nI d) := by
    intro h1 k1
    refine And.intro ie (nm_r (e' := nI (tk e)) (by rw [ee, et]) ?_)
    exact pk_lt (tk e) 10 (fun _ => k1) (fun y => pk_lt 16 (tk e) (fun _ => k1) (fun y' => absurd h1 (by omega)))
  have resD : ¬ (tk e = 12 ∨ tk e = 13) → yt_res tk nx ln c e i = pg_D tk nx ln c (pg_lD tk nx ln c) (pg_lA tk nx ln c) e i := by
    intro t
    have e1 : yt_res tk nx ln c e i = pg_lD tk nx ln c e i := if_neg t
    rw [e1] at hj ⊢
    exact (pg_lD_eq (by omega)).symm
  have resA : (tk e = 12 ∨ tk e = 13) → yt_res tk nx ln c e i = pg_ag i (pg_lD tk nx ln c (e + 1) i) (fun j => pg_lA tk nx ln c e j) := by
    intro t
    have e1 : yt_res tk nx ln c e i = pg_lA tk nx ln c e i := if_pos t
    rw [e1] at hj ⊢
    exact (pg_lA_eq (by omega)).symm
  have none : (yt_res tk nx ln c e i).2.2.2 = [] → P (f_length, nI R.length, nI Q.length, a_tok, a_len, a_next, a_text, a_does, a_again, a_taskCell, a_taskPlace, a_taskDepth, a_kept) := fun h0 => yt_p0 hT hK hokR hh hQ (by omega) (by rw [hemE, h0]; rfl) k
  have agl : pg_C nx ln (e + 1) → nx (e + 1) = nx e → ∀ {x4 : Int32}, (tk e = 12 ∨ tk e = 13) →
      ((¬ y_en (pg_lD tk nx ln c (e + 1) i).1 < 0) → wY_visit_186 P (nI e) (nI i) (nI d) (y_en (pg_lD tk nx ln c (e + 1) i).1) f_length (nI R.length) (nI Q.length) a_tok a_len a_next a_text a_does a_again a_taskCell a_taskPlace a_taskDepth a_kept → wY_visit_160 P (nI e) (nI i) (nI d) x4 (y_en (pg_lD tk nx ln c (e + 1) i).1) f_length (nI R.length) (nI Q.length) a_tok a_len a_next a_text a_does a_again a_taskCell a_taskPlace a_taskDepth a_kept) →
      wY_visit_160 P (nI e) (nI i) (nI d) x4 (y_en (pg_lD tk nx ln c (e + 1) i).1) f_length (nI R.length) (nI Q.length) a_tok a_len a_next a_text a_does a_again a_taskCell a_taskPlace a_taskDepth a_kept := by
    intro s1 s3 x4 t g
    have hv1 := (pg_C_v hG s1).2.1
    have e0 := resA t
    rcases h1 : pg_lD tk nx ln c (e + 1) i with ⟨_ | _ | j1, w1, k1, p1⟩
    · rw [e0, h1] at hj
      exact absurd hj (by show ¬ 0 = j + 2; omega)
    · exact br_t (by show (-2 : Int32) < 0; decide) (none (by rw [e0, h1]; rfl))
    · rw [h1] at g e0
      have b1 := y_lb hG hN s1 hi (j := j1) (by rw [h1])
      refine g (nI_pos (by omega)) (pk_eq j1 i (fun hji => ?_) (fun hji => ?_))
      · have e1 : (yt_res tk nx ln c e i).1 = i + 2 ∧ (yt_res tk nx ln c e i).2.2.2 = p1 := by
          rw [e0]
          simp only [pg_ag, if_pos hji]
          exact ⟨trivial, trivial⟩
        obtain rfl : j = i := by omega
        rw [e1.2] at hp hemE
        obtain ⟨o1, o2, o3, o4, o5⟩ := yt_sub (M := M) (d := d) hG hN s1 hi (j := j1) (by rw [h1]) (fun x hx => hp x (by rw [h1] at hx; exact hx))
        show wpY_task _ _ (nI e + 1) _ _
        rw [nI_1]
        refine yt_p1 (P := fun u => match u with | (f_length, f_tasks, f_keptNodes, a_tok, a_len, a_next, a_text, a_does, a_again, a_taskCell, a_taskPlace, a_taskDepth, a_kept) => P (f_length, f_tasks, f_keptNodes, a_tok, a_len, a_next, a_text, a_does, a_again, a_taskCell, a_taskPlace, a_taskDepth, a_kept)) (e := e) (i := j) (d := d) (M := M) hsz hT hK hokR hh hQ o1 (by omega) (by rw [o2, hemE, h1]) ?_ k
        rw [o3, hl, show j1 - j = j - j by omega]
        exact yt_v_u (by omega)
      · have e1 : (yt_res tk nx ln c e i).1 = (pg_lA tk nx ln c e j1).1 ∧ (yt_res tk nx ln c e i).2.2.2 = p1 ++ (pg_lA tk nx ln c e j1).2.2.2 := by
          rw [e0]
          simp only [pg_ag, if_neg hji]
          exact ⟨trivial, trivial⟩
        rw [e1.2] at hp hemE
        obtain ⟨o1, o2, o3, o4, o5⟩ := yt_sub (M := M) (d := d) hG hN s1 hi (j := j1) (by rw [h1]) (fun x hx => hp x (List.mem_append.mpr (Or.inl (by rw [h1] at hx; exact hx))))
        obtain ⟨q1, q2, q3, q4, q5⟩ := yt_subA (M := M) (d := d) hG hN he t b1.2 (j := j) (by rw [← e1.1]; exact hj) (fun x hx => hp x (List.mem_append.mpr (Or.inr hx)))
        refine yt_p2 (P := fun u => match u with | (f_length, f_tasks, f_keptNodes, a_tok, a_len, a_next, a_text, a_does, a_again, a_taskCell, a_taskPlace, a_taskDepth, a_kept) => P (f_length, f_tasks, f_keptNodes, a_tok, a_len, a_next, a_text, a_does, a_again, a_taskCell, a_taskPlace, a_taskDepth, a_kept)) (e1 := e + 1) (i1 := i) (d1 := d) (e2 := e) (i2 := j1) (d2 := d) (e := e) (i := i) (d := d) (M := M) hsz hT hK hokR hh hQ o1 q1 (Nat.le_refl _) (by omega) (by omega) ?_ ?_ (fun tc tp td h => ?_) k
        · rw [o2, q2, hemE, List.flatMap_append, h1]
        · rw [o3, q3, hl]
          have := yt_v_r (b := nx (e + 1) - (e + 1)) (l1 := j1 - i) (l2 := j - j1) (by omega)
          rw [show nx (e + 1) - (e + 1) + 1 = nx e - e by omega, show j1 - i + (j - j1) = j - i by omega] at this
          omega
        · show wpY_task _ _ (nI e + 1) _ _
          rw [nI_1]
          exact h
  rcases pg_tc hv.1 with t | t | t | t | t | t | t | t | ⟨r, hr, t⟩ | t
  · refine nop (by omega) ?_
    rw [t]
    exact br_t (by decide) (br_f (by decide) (br_f (by decide) (br_t (by decide) (none (by rw [resD (by omega), pg_D_2 t])))))
  · -- 10
    obtain ⟨s1, s2, s3, s4, s5⟩ := pg_C_b hG he (Or.inl t)
    have i1 : vp_in (nI e + 1) 60 := by rw [nI_1]; have := pg_C_s hG s1; exact xb_in (by omega) (by omega)
    have n1 : a_next (nI e + 1).toNatClampNeg = nI (nx (e + 1)) := by rw [nI_1, xb_c (by omega)]; exact (hcell _ s1).2.2
    have e0 := resD (by omega)
    rw [pg_D_10 t] at e0
    rcases h1 : pg_lD tk nx ln c (e + 1) i with ⟨_ | _ | j1, w1, k1, p1⟩
    · rw [e0, h1] at hj
      exact absurd hj (by show ¬ 0 = j + 2; omega)
    · rw [e0, h1] at hj
      exact absurd hj (by show ¬ 1 = j + 2; omega)
    · rw [h1] at e0
      have b1 := y_lb hG hN s1 hi (j := j1) (by rw [h1])
      have e1 : (yt_res tk nx ln c e i).1 = (pg_lD tk nx ln c (nx (e + 1)) j1).1 ∧ (yt_res tk nx ln c e i).2.2.2 = p1 ++ (pg_lD tk nx ln c (nx (e + 1)) j1).2.2.2 := by rw [e0]; exact ⟨rfl, rfl⟩
      rw [e1.2] at hp hemE
      obtain ⟨o1, o2, o3, o4, o5⟩ := yt_sub (M := M) (d := d) hG hN s1 hi (j := j1) (by rw [h1]) (fun x hx => hp x (List.mem_append.mpr (Or.inl (by rw [h1] at hx; exact hx))))
      obtain ⟨q1, q2, q3, q4, q5⟩ := yt_sub (M := M) (d := d) hG hN s2 b1.2 (j := j) (by rw [← e1.1]; exact hj) (fun x hx => hp x (List.mem_append.mpr (Or.inr hx)))
      refine opr 10 t (by omega) (by omega) s1 (br_t (by decide) (br_t rfl (And.intro i1 ?_)))
      rw [n1, h1]
      refine yt_p2 (P := fun u => match u with | (f_length, f_tasks, f_keptNodes, a_tok, a_len, a_next, a_text, a_does, a_again, a_taskCell, a_taskPlace, a_taskDepth, a_kept) => P (f_length, f_tasks, f_keptNodes, a_tok, a_len, a_next, a_text, a_does, a_again, a_taskCell, a_taskPlace, a_taskDepth, a_kept)) (e1 := e + 1) (i1 := i) (d1 := d) (e2 := nx (e + 1)) (i2 := j1) (d2 := d) (e := e) (i := i) (d := d) (M := M) hsz hT hK hokR hh hQ o1 q1 (by omega) (by omega) (by omega) ?_ ?_ (fun tc tp td h => ?_) k
      · rw [o2, q2, hemE, List.flatMap_append, h1]
      · rw [o3, q3, hl]
        have := yt_v_sq (a := nx (e + 1) - (e + 1)) (b := nx (nx (e + 1)) - nx (e + 1)) (l1 := j1 - i) (l2 := j - j1)
        rw [show nx (e + 1) - (e + 1) + (nx (nx (e + 1)) - nx (e + 1)) + 1 = nx e - e by omega, show j1 - i + (j - j1) = j - i by omega] at this
        omega
      · show wpY_task _ _ (nI e + 1) _ _
        rw [nI_1]
        exact h
  · -- 11
    obtain ⟨s1, s2, s3, s4, s5⟩ := pg_C_b hG he (Or.inr t)
    have i1 : vp_in (nI e + 1) 60 := by rw [nI_1]; have := pg_C_s hG s1; exact xb_in (by omega) (by omega)
    have n1 : a_next (nI e + 1).toNatClampNeg = nI (nx (e + 1)) := by rw [nI_1, xb_c (by omega)]; exact (hcell _ s1).2.2
    have e0 := resD (by omega)
    rw [pg_D_11 t] at e0
    rcases h1 : pg_lD tk nx ln c (e + 1) i with ⟨_ | _ | j1, w1, k1, p1⟩
    · rw [e0, h1] at hj
      exact absurd hj (by show ¬ 0 = j + 2; omega)
    · rw [h1] at e0
      have e1 : (yt_res tk nx ln c e i).1 = (pg_lD tk nx ln c (nx (e + 1)) i).1 ∧ (yt_res tk nx ln c e i).2.2.2 = (pg_lD tk nx ln c (nx (e + 1)) i).2.2.2 := by rw [e0]; exact ⟨rfl, rfl⟩
      rw [e1.2] at hp hemE
      obtain ⟨q1, q2, q3, q4, q5⟩ := yt_sub (M := M) (d := d) hG hN s2 hi (j := j) (by rw [← e1.1]; exact hj) hp
      refine opr 11 t (by omega) (by omega) s1 (br_t (by decide) (br_f (by decide) (br_t rfl (br_f (by rw [h1]; show ¬ (0 : Int32) ≤ -2; decide) (And.intro i1 ?_)))))
      rw [n1]
      refine yt_p1 (e := e) (i := i) (d := d) (M := M) hsz hT hK hokR hh hQ q1 (by omega) (by rw [q2, hemE]) ?_ k
      rw [q3, hl]
      exact yt_v_u (by omega)
    · rw [h1] at e0
      have b1 := y_lb hG hN s1 hi (j := j1) (by rw [h1])
      have e1 : (yt_res tk nx ln c e i).1 = j1 + 2 ∧ (yt_res tk nx ln c e i).2.2.2 = p1 := by rw [e0]; exact ⟨rfl, rfl⟩
      obtain rfl : j1 = j := by omega
      rw [e1.2] at hp hemE
      obtain ⟨o1, o2, o3, o4, o5⟩ := yt_sub (M := M) (d := d) hG hN s1 hi (j := j1) (by rw [h1]) (fun x hx => hp x (by rw [h1] at hx; exact hx))
      refine opr 11 t (by omega) (by omega) s1 (br_t (by decide) (br_f (by decide) (br_t rfl (br_t (by rw [h1]; exact nI_pos' (by omega)) (br_f (by rw [h1]; exact nI_pos (by omega)) (br_f (by decide) (br_f (by decide) (br_f (by decide) ?_))))))))
      show wpY_task _ _ (nI e + 1) _ _
      rw [nI_1]
      refine yt_p1 (e := e) (i := i) (d := d) (M := M) hsz hT hK hokR hh hQ o1 (by omega) (by rw [o2, hemE, h1]) ?_ k
      rw [o3, hl]
      exact yt_v_u (by omega)
  · -- 12
    obtain ⟨s1, s2, s3⟩ := pg_C_u hG he (by omega)
    refine opr 12 t (by omega) (by omega) s1 (br_t (by decide) (br_f (by decide) (br_f (by decide) ?_)))
    exact agl s1 s3 (Or.inl t) (fun hx k2 => br_f hx (br_f (by decide) (br_t rfl k2)))
  · -- 13
    obtain ⟨s1, s2, s3⟩ := pg_C_u hG he (by omega)
    refine opr 13 t (by omega) (by omega) s1 (br_t (by decide) (br_f (by decide) (br_f (by decide) ?_)))
    exact agl s1 s3 (Or.inr t) (fun hx k2 => br_f hx (br_f (by decide) (br_f (by decide) (br_t rfl k2))))
  · -- 14
    obtain ⟨s1, s2, s3⟩ := pg_C_u hG he (by omega)
    have e0 := resD (by omega)
    rw [pg_D_14 t] at e0
    refine opr 14 t (by omega) (by omega) s1 (br_t (by decide) (br_f (by decide) (br_f (by decide) ?_)))
    rcases h1 : pg_lD tk nx ln c (e + 1) i with ⟨_ | _ | j1, w1, k1, p1⟩
    · rw [e0, h1] at hj
      exact absurd hj (by show ¬ 0 = j + 2; omega)
    · exact br_t (by show (-2 : Int32) < 0; decide) (none (by rw [e0, h1]; rfl))
    · rw [h1] at e0
      have b1 := y_lb hG hN s1 hi (j := j1) (by rw [h1])
      have e1 : (yt_res tk nx ln c e i).1 = j1 + 2 ∧ (yt_res tk nx ln c e i).2.2.2 = p1 := by rw [e0]; exact ⟨rfl, rfl⟩
      obtain rfl : j1 = j := by omega
      rw [e1.2] at hp hemE
      obtain ⟨o1, o2, o3, o4, o5⟩ := yt_sub (M := M) (d := d) hG hN s1 hi (j := j1) (by rw [h1]) (fun x hx => hp x (by rw [h1] at hx; exact hx))
      refine br_f (nI_pos (by omega)) (br_f (by decide) (br_f (by decide) (br_f (by decide) ?_)))
      show wpY_task _ _ (nI e + 1) _ _
      rw [nI_1]
      refine yt_p1 (e := e) (i := i) (d := d) (M := M) hsz hT hK hokR hh hQ o1 (by omega) (by rw [o2, hemE, h1]) ?_ k
      rw [o3, hl]
      exact yt_v_u (by omega)
  · -- 15
    obtain ⟨s1, s2, s3⟩ := pg_C_u hG he (by omega)
    have e0 := resD (by omega)
    rw [pg_D_15 t] at e0
    have h0 : (yt_res tk nx ln c e i).2.2.2 = [] := by
      rw [e0]
      rcases pg_lD tk nx ln c (e + 1) i with ⟨_ | _ | j1, w1, k1, p1⟩ <;> rfl
    exact opr 15 t (by omega) (by omega) s1 (br_t (by decide) (br_f (by decide) (br_f (by decide) (br_c (fun _ => none h0) (fun _ => br_t (by decide) (none h0))))))
  · -- 16
    obtain ⟨s1, s2, s3⟩ := pg_C_u hG he (by omega)
    have e0 := resD (by omega)
    rw [pg_D_16 t] at e0
    have h0 : (yt_res tk nx ln c e i).2.2.2 = [] := by
      rw [e0]
      rcases pg_lD tk nx ln c (e + 1) i with ⟨_ | _ | j1, w1, k1, p1⟩ <;> rfl
    exact opr 16 t (by omega) (by omega) s1 (br_t (by decide) (br_f (by decide) (br_f (by decide) (br_c (fun _ => none h0) (fun _ => br_t (by decide) (none h0))))))
  · -- a call
    have e0 := resD (by omega)
    rw [pg_D_c hr t] at e0
    have hln0 : ln r ≠ 0 := by
      intro hl0
      rw [if_pos hl0] at e0
      rw [e0] at hj
      exact absurd hj (by show ¬ 1 = j + 2; omega)
    rw [if_neg hln0] at e0
    obtain ⟨s1, s2, s3⟩ := pg_C_r hG hr hln0
    rcases h1 : pg_lD tk nx ln c (12 * r) i with ⟨_ | _ | j1, w1, k1, p1⟩
    · rw [e0, h1] at hj
      exact absurd hj (by show ¬ 0 = j + 2; omega)
    · rw [e0, h1] at hj
      exact absurd hj (by show ¬ 1 = j + 2; omega)
    · rw [h1] at e0
      have e1 : (yt_res tk nx ln c e i).1 = j1 + 2 ∧ (yt_res tk nx ln c e i).2.2.2 = [(17 * r + i, j1)] := by rw [e0]; exact ⟨rfl, rfl⟩
      obtain rfl : j1 = j := by omega
      rw [e1.2] at hp hemE
      have hn := hp _ (List.mem_singleton.mpr rfl)
      have heq := tr_eq hG hN hN16 d (17 * r + i, j1) hn
      have hch : tr_ch tk nx ln c (17 * r + i) = p1 := by
        unfold tr_ch
        rw [show (17 * r + i) / 17 = r by omega, show (17 * r + i) % 17 = i by omega, h1]
      have hkid : ∀ x ∈ p1, tr_ok tk nx ln c N M x := by
        obtain ⟨M', rfl⟩ : ∃ M', M = M' + 1 := by
          cases M with
          | zero =>
            obtain ⟨_, _, _, _, _, _, h5⟩ := hn
            exact absurd h5 (by show ¬ 0 = j1 + 2; omega)
          | succ M' => exact ⟨M', rfl⟩
        intro x hx
        exact tr_ok_m (tr_kids hG hN hN16 hn x (by simp only; rw [hch]; exact hx)) (Nat.le_succ M')
      obtain ⟨o1, o2, o3, o4, o5⟩ := yt_sub (M := M) (d := d + 1) hG hN s1 hi (j := j1) (by rw [h1]) (fun x hx => hkid x (by rw [h1] at hx; exact hx))
      have er : nI (20 + r) - 20 = nI r := by
        have := pk_sub (a := 20 + r) (b := 20) (by omega)
        rw [show 20 + r - 20 = r by omega] at this
        exact this
      have er12 : 12 * nI r = nI (12 * r) := pk_mul 12 r
      obtain ⟨a1, a2, _⟩ := y_ix (e := e) (i := i) (by omega) (by omega)
      have hdo : a_does (17 * e + i) = nI j1 := by
        rw [hD e i he hi]
        have e2 : yt_res tk nx ln c e i = pg_lD tk nx ln c e i := if_neg (by omega)
        rw [← e2, e1.1]
        rfl
      refine nop (by omega) ?_
      rw [t]
      refine br_f (nI_nlt (b := 20) (by omega) (by omega)) (br_f (nI_nlt (a := 23) (by omega) (by omega)) (And.intro a1 ?_))
      rw [a2, hdo, er]
      refine yp_keep hQ ?_
      show wpY_task _ _ (12 * nI r) _ (nI d + 1)
      rw [er12, nI_1]
      obtain ⟨h1', h2'⟩ := hh
      simp only at h1'
      refine yp_task (by omega) ?_
      have kk := k ((12 * r, i, d + 1) :: R) (Q ++ [(17 * r + i, j1, d)]) _ _ _ _ (yt_T_p hT) (yt_K_a hK) (fun t' ht' => ?_) ⟨?_, yt_h_m ?_ R h2'⟩ ?_ ?_ ?_
      · rw [List.length_append] at kk
        simp only [show (17 * r + i) / 17 = r by omega, show (17 * r + i) % 17 = i by omega] at kk
        exact kk
      · rcases List.mem_cons.mp ht' with y | y
        · rw [y]; exact o1
        · exact hokR t' y
      · rw [List.length_append]
        show R.length + (nx (12 * r) - 12 * r) ≤ 12 * (Q.length + 1)
        omega
      · rw [List.length_append]
        omega
      · rw [List.length_append]
        show Q.length + 1 ≤ 30
        omega
      · rw [List.flatMap_cons, List.flatMap_cons, o2, hemE, List.flatMap_cons, List.flatMap_nil, List.append_nil, heq, hch, h1]
        simp only [List.append_assoc, List.cons_append, List.nil_append]
      · rw [List.length_append]
        have hv1 := yt_v_b (m := nx (12 * r) - 12 * r) (l := yt_l tk nx ln c (12 * r) i) (by omega) (by rw [o3]; omega)
        show yt_v (nx (12 * r) - 12 * r) (yt_l tk nx ln c (12 * r) i) + _ + 1300 * (30 - (Q.length + 1)) + 1 ≤ yt_v (nx e - e) _ + _ + _
        omega
  · -- a letter
    have h0 : (yt_res tk nx ln c e i).2.2.2 = [] := by
      rw [resD (by omega), pg_D_l t]
      unfold pg_le
      split <;> rfl
    refine nop (by omega) ?_
    have k97 : wY_visit_97 P (nI e) (nI i) (nI d) (nI (tk e)) (-2) f_length (nI R.length) (nI Q.length) a_tok a_len a_next a_text a_does a_again a_taskCell a_taskPlace a_taskDepth a_kept :=
      pk_eq (tk e) 10 (fun y => absurd t (by omega)) (fun _ => pk_eq (tk e) 11 (fun y => absurd t (by omega)) (fun _ => br_t (by decide) (none h0)))
    exact pk_lt (tk e) 20 (fun _ => k97) (fun y => pk_lt 23 (tk e) (fun _ => k97) (fun y' => absurd t (by omega)))
end
end
section
/-! the reference's parse -/
def yt_PQ (P : SY → Prop) (f_length : Int32) (a_tok a_len a_next a_text : Nat → Int32) (T : List (Nat × Nat × Nat)) : Prop :=
  ∀ (f_tasks : Int32) (a_does a_again a_taskCell a_taskPlace a_taskDepth a_kept : Nat → Int32), yt_K T a_kept → P (f_length, f_tasks, nI T.length, a_tok, a_len, a_next, a_text, a_does, a_again, a_taskCell, a_taskPlace, a_taskDepth, a_kept)
section
variable {P : SY → Prop} {post : Int32 → SY → Prop} {f_length f_tasks f_keptNodes : Int32} {a_tok a_len a_next a_text a_does a_again a_taskCell a_taskPlace a_taskDepth a_kept : Nat → Int32} {tk nx ln c : Nat → Nat} {N M : Nat}
theorem yt_loop (hY : y_X f_length a_tok a_len a_next a_text tk nx ln c N) (hD : ∀ e i, pg_C nx ln e → i ≤ N → a_does (17 * e + i) = y_en (pg_lD tk nx ln c e i).1) {G : List (Nat × Nat × Nat)} (K : yt_PQ P f_length a_tok a_len a_next a_text G) :
    ∀ (n τ : Nat) (TS : List yt_Tk) (Q : List (Nat × Nat × Nat)) (tc tp td kp : Nat → Int32), 40001 ≤ n + τ → τ + yt_mu tk nx ln c TS + 1300 * (30 - Q.length) < 40000 → (∀ t, t ∈ TS → yt_ok tk nx ln c N M t) → yt_h nx Q.length TS → Q.length ≤ 30 → yt_T TS tc tp td → yt_K Q kp → (Q ++ TS.flatMap (yt_em tk nx ln c M)).take 30 = G →
      wY_tree_26 P n (nI τ) f_length (nI TS.length) (nI Q.length) a_tok a_len a_next a_text a_does a_again tc tp td kp := by
  intro n
  induction n with
  | zero =>
    intro τ TS Q tc tp td kp h1 h2
    omega
  | succ n ih =>
    intro τ TS Q tc tp td kp h1 h2 hok hh hQ hT hK hG
    refine br_f (nI_ge (b := 40000) (by omega) (by decide)) ?_
    cases TS with
    | nil =>
      have e : Q = G := by rw [← hG, List.flatMap_nil, List.append_nil, List.take_of_length_le hQ]
      subst e
      exact br_t (by show (nI 0 : Int32) ≤ 0; decide) (K _ _ _ _ _ _ _ hK)
    | cons t R =>
      obtain ⟨e, i, d⟩ := t
      have hl : R.length < 400 := by
        have := hh.1
        have := (pg_C_v hY.1 (hok _ List.mem_cons_self).1).2.1
        simp only at this
        omega
      refine br_f (nI_nle (n := R.length + 1) (by omega) (by omega)) (pk_le 30 Q.length (fun y => ?_) (fun y => ?_))
      · have e1 : Q = G := by rw [← hG, List.take_append, show 30 - Q.length = 0 by omega, List.take_zero, List.append_nil, List.take_of_length_le hQ]
        subst e1
        exact K _ _ _ _ _ _ _ hK
      · have ix : vp_in (nI R.length) 400 := xb_in hl (by omega)
        have ex : (nI R.length).toNatClampNeg = R.length := xb_c (by omega)
        obtain ⟨⟨g1, g2, g3⟩, g4⟩ := hT
        refine nm_r (nI_pred R.length) (And.intro ix (And.intro ix (And.intro ix ?_)))
        rw [ex, g1, g2, g3]
        refine yp_visit (M := M) hY hD (hok _ List.mem_cons_self) (fun t ht => hok t (List.mem_cons_of_mem _ ht)) hh y g4 hK (fun TS' Q' tc' tp' td' kp' a1 a2 a3 a4 a5 a6 a7 => nm_r (nI_1 τ) ?_)
        exact ih (τ + 1) TS' Q' tc' tp' td' kp' (by omega) (by omega) a3 a4 a5 a1 a2 (by rw [a6, hG])
theorem yp_tree (hY : y_X f_length a_tok a_len a_next a_text tk nx ln c N) (hD : ∀ e i, pg_C nx ln e → i ≤ N → a_does (17 * e + i) = y_en (pg_lD tk nx ln c e i).1) {r i j w k ρ : Nat} {p : List (Nat × Nat)} (hr : r < 4) (hi : i ≤ N) (hln : ln r ≠ 0) (hev : (pg_ev tk nx ln c ρ).1 (12 * r) i = (j + 2, w, k, p))
    (K : yt_PQ P f_length a_tok a_len a_next a_text ((tr_pre (tr_ch tk nx ln c) ρ 0 (17 * r + i, j)).take 30)) : wpY_tree P (f_length, f_tasks, 0, a_tok, a_len, a_next, a_text, a_does, a_again, a_taskCell, a_taskPlace, a_taskDepth, a_kept) (nI r) (nI i) (nI j) := by
  have hN16 := hY.2.1
  have hok : tr_ok tk nx ln c N ρ (17 * r + i, j) := ⟨r, i, hr, hi, hln, rfl, by rw [hev]⟩
  obtain ⟨s1, s2, s3⟩ := pg_C_r hY.1 hr hln
  have hlD := pg_lD_of (tk := tk) (nx := nx) (ln := ln) (c := c) (n := ρ) (e := 12 * r) (i := i) (by rw [hev]; simp)
  rw [hev] at hlD
  have er12 : 12 * nI r = nI (12 * r) := pk_mul 12 r
  have hkid : ∀ x ∈ p, tr_ok tk nx ln c N ρ x := by
    obtain ⟨M', rfl⟩ : ∃ M', ρ = M' + 1 := by
      cases ρ with
      | zero => exact absurd hev (by show ¬ (0, 0, 0, []) = (j + 2, w, k, p); simp)
      | succ M' => exact ⟨M', rfl⟩
    intro x hx
    refine tr_ok_m (tr_kids hY.1 hY.2.2.2.1 hN16 hok x ?_) (Nat.le_succ M')
    simp only
    rw [tr_ch_of (n := M' + 1) (by omega) (by rw [hev]; simp), hev]
    exact hx
  obtain ⟨o1, o2, o3, o4, o5⟩ := yt_sub (M := ρ) (d := 1) hY.1 hY.2.2.2.1 s1 hi (j := j) (by rw [hlD]) (fun x hx => hkid x (by rw [hlD] at hx; exact hx))
  have heq := tr_eq hY.1 hY.2.2.2.1 hN16 0 (17 * r + i, j) hok
  have hch : tr_ch tk nx ln c (17 * r + i) = p := by
    rw [tr_ch_of (n := ρ) (by omega) (by rw [hev]; simp), hev]
  have hv1 := yt_v_b (m := nx (12 * r) - 12 * r) (l := yt_l tk nx ln c (12 * r) i) (by omega) (by rw [o3]; omega)
  unfold wpY_tree
  dsimp only
  refine yp_keep (s := 0) (by omega) ?_
  show wpY_task _ _ (12 * nI r) _ _
  rw [er12]
  refine yp_task (s := 0) (by omega) ⟨40001, ?_⟩
  have hK := yt_K_a (Q := []) (kp := a_kept) (z := (17 * r + i, j, 0)) (fun m z h => absurd h (by simp))
  simp only [show (17 * r + i) / 17 = r by omega, show (17 * r + i) % 17 = i by omega] at hK
  refine yt_loop (M := ρ) hY hD K 40001 0 [(12 * r, i, 1)] [(17 * r + i, j, 0)] _ _ _ _ (by omega) ?_ (fun t ht => ?_) ⟨?_, trivial⟩ (by show 1 ≤ 30; omega) (yt_T_p (R := []) trivial) hK ?_
  · show 0 + (yt_v (nx (12 * r) - 12 * r) (yt_l tk nx ln c (12 * r) i) + 0) + 1300 * (30 - 1) < 40000
    omega
  · rw [List.mem_singleton] at ht
    subst ht
    exact o1
  · show 0 + (nx (12 * r) - 12 * r) ≤ 12 * 1
    omega
  · rw [List.flatMap_cons, List.flatMap_nil, List.append_nil, o2, heq, hch, hlD]
    rfl
theorem yp_parse_a {r i : Nat} (hr : r < 4) (hi : i ≤ N) (hN : N ≤ 16)
    (k : (a_len r = 0 → post (-2) (nI N, f_tasks, 0, a_tok, a_len, a_next, a_text, a_does, a_again, a_taskCell, a_taskPlace, a_taskDepth, a_kept)) ∧ (¬ a_len r = 0 → (wpY_table (fun u => match u with | (f_length, f_tasks, f_keptNodes, a_tok, a_len, a_next, a_text, a_does, a_again, a_taskCell, a_taskPlace, a_taskDepth, a_kept) => (vp_in ((204 * nI r) + nI i) 816 ∧ (∀ x3_22 : Int32, x3_22 = a_does ((204 * nI r) + nI i).toNatClampNeg → (((x3_22 < 0 → (post x3_22 (f_length, f_tasks, f_keptNodes, a_tok, a_len, a_next, a_text, a_does, a_again, a_taskCell, a_taskPlace, a_taskDepth, a_kept))) ∧ (¬ x3_22 < 0 → (wpY_tree (fun u => match u with | (f_length, f_tasks, f_keptNodes, a_tok, a_len, a_next, a_text, a_does, a_again, a_taskCell, a_taskPlace, a_taskDepth, a_kept) => (post x3_22 (f_length, f_tasks, f_keptNodes, a_tok, a_len, a_next, a_text, a_does, a_again, a_taskCell, a_taskPlace, a_taskDepth, a_kept))) (f_length, f_tasks, f_keptNodes, a_tok, a_len, a_next, a_text, a_does, a_again, a_taskCell, a_taskPlace, a_taskDepth, a_kept) (nI r) (nI i) x3_22))))))) (nI N, f_tasks, 0, a_tok, a_len, a_next, a_text, a_does, a_again, a_taskCell, a_taskPlace, a_taskDepth, a_kept)))) : wpY_parse post (nI N, f_tasks, f_keptNodes, a_tok, a_len, a_next, a_text, a_does, a_again, a_taskCell, a_taskPlace, a_taskDepth, a_kept) (nI r) (nI i) := by
  refine br_f (nI_pos (by omega)) (br_f (nI_nlt (b := r) (a := 3) (by omega) (by decide)) (br_f (nI_pos (by omega)) (br_t (nI_le hi (by omega)) (And.intro (xb_in (by omega) (by omega)) ?_))))
  rw [xb_c (by omega)]
  exact k
theorem yp_parse_l (hY : y_X f_length a_tok a_len a_next a_text tk nx ln c N) {r i : Nat} (hr : r < 4) (hi : i ≤ N) (hln : ln r ≠ 0)
    (k1 : (pg_lD tk nx ln c (12 * r) i).1 < 2 → yt_PQ (post (y_en (pg_lD tk nx ln c (12 * r) i).1)) f_length a_tok a_len a_next a_text [])
    (k2 : ∀ (does again : Nat → Int32) (j : Nat), (pg_lD tk nx ln c (12 * r) i).1 = j + 2 → (∀ e i, pg_C nx ln e → i ≤ N → does (17 * e + i) = y_en (pg_lD tk nx ln c e i).1) → wpY_tree (fun u => match u with | (f_length, f_tasks, f_keptNodes, a_tok, a_len, a_next, a_text, a_does, a_again, a_taskCell, a_taskPlace, a_taskDepth, a_kept) => (post (nI j) (f_length, f_tasks, f_keptNodes, a_tok, a_len, a_next, a_text, a_does, a_again, a_taskCell, a_taskPlace, a_taskDepth, a_kept))) (f_length, f_tasks, 0, a_tok, a_len, a_next, a_text, does, again, a_taskCell, a_taskPlace, a_taskDepth, a_kept) (nI r) (nI i) (nI j)) : wpY_parse post (f_length, f_tasks, f_keptNodes, a_tok, a_len, a_next, a_text, a_does, a_again, a_taskCell, a_taskPlace, a_taskDepth, a_kept) (nI r) (nI i) := by
  have hN16 := hY.2.1
  have hlen := hY.2.2.1
  have hY' := hY
  subst hlen
  have hl12 := (hY.1 r hr).1
  have ela := hY.2.2.2.2.2.2 r hr
  obtain ⟨s1, s2, s3⟩ := pg_C_r hY.1 hr hln
  have ix : 204 * nI r + nI i = nI (17 * (12 * r) + i) := by
    show nI 204 * nI r + nI i = _
    rw [pk_mul, nI_add]
    exact congrArg nI (by omega)
  refine yp_parse_a hr hi hN16 (br_f (by rw [ela]; exact nI_ne0 (by omega) (by omega)) ?_)
  refine yp_table hY (fun does again hD => ?_)
  have hd := hD _ i s1 hi
  refine And.intro (by rw [ix]; exact xb_in (by omega) (by omega)) (nm_r (e' := y_en (pg_lD tk nx ln c (12 * r) i).1) (by rw [ix, xb_c (by omega), hd]) ?_)
  rcases ho : (pg_lD tk nx ln c (12 * r) i).1 with _ | _ | j
  · have := k1 (by omega)
    rw [ho] at this
    exact br_t (by decide) (this _ _ _ _ _ _ _ (fun m z h => absurd h (by simp)))
  · have := k1 (by omega)
    rw [ho] at this
    exact br_t (by decide) (this _ _ _ _ _ _ _ (fun m z h => absurd h (by simp)))
  · have hb := y_lb hY.1 hY.2.2.2.1 s1 hi ho
    exact br_f (nI_pos (by omega)) (k2 does again j ho hD)
theorem yp_parse_0 (hY : y_X f_length a_tok a_len a_next a_text tk nx ln c N) {r i : Nat} (hr : r < 4) (hi : i ≤ N) (hln : ln r = 0)
    (K : yt_PQ (post (-2)) f_length a_tok a_len a_next a_text []) : wpY_parse post (f_length, f_tasks, f_keptNodes, a_tok, a_len, a_next, a_text, a_does, a_again, a_taskCell, a_taskPlace, a_taskDepth, a_kept) (nI r) (nI i) := by
  have hN16 := hY.2.1
  have hlen := hY.2.2.1
  subst hlen
  have ela := hY.2.2.2.2.2.2 r hr
  rw [hln] at ela
  exact yp_parse_a hr hi hN16 (br_t ela (K _ _ _ _ _ _ _ (fun m z h => absurd h (by simp))))
theorem yp_parse_1 (hY : y_X f_length a_tok a_len a_next a_text tk nx ln c N) {r i o : Nat} (hr : r < 4) (hi : i ≤ N) (hln : ln r ≠ 0) (ho : (pg_lD tk nx ln c (12 * r) i).1 = o) (ho2 : o < 2)
    (K : yt_PQ (post (y_en o)) f_length a_tok a_len a_next a_text []) : wpY_parse post (f_length, f_tasks, f_keptNodes, a_tok, a_len, a_next, a_text, a_does, a_again, a_taskCell, a_taskPlace, a_taskDepth, a_kept) (nI r) (nI i) :=
  yp_parse_l hY hr hi hln (fun _ => by rw [ho]; exact K) (fun _ _ j hj _ => absurd hj (by omega))
theorem yp_parse_2 (hY : y_X f_length a_tok a_len a_next a_text tk nx ln c N) {r i j w k ρ : Nat} {p : List (Nat × Nat)} (hr : r < 4) (hi : i ≤ N) (hln : ln r ≠ 0) (hev : (pg_ev tk nx ln c ρ).1 (12 * r) i = (j + 2, w, k, p))
    (K : yt_PQ (post (nI j)) f_length a_tok a_len a_next a_text ((tr_pre (tr_ch tk nx ln c) ρ 0 (17 * r + i, j)).take 30)) : wpY_parse post (f_length, f_tasks, f_keptNodes, a_tok, a_len, a_next, a_text, a_does, a_again, a_taskCell, a_taskPlace, a_taskDepth, a_kept) (nI r) (nI i) := by
  have hlD := pg_lD_of (tk := tk) (nx := nx) (ln := ln) (c := c) (n := ρ) (e := 12 * r) (i := i) (by rw [hev]; simp)
  rw [hev] at hlD
  refine yp_parse_l hY hr hi hln (fun h => ?_) (fun does again j' hj' hD => ?_)
  · rw [hlD] at h
    simp only at h
    omega
  · rw [hlD] at hj'
    simp only at hj'
    obtain rfl : j' = j := by omega
    exact yp_tree hY hD hr hi hln hev K
end
end
section
/-! the survey of a token list, purely -/
def sv_L (t : Nat) : Prop := 97 ≤ t ∧ t ≤ 122
theorem sv_dL (t : Nat) : sv_L t ∨ ¬ sv_L t := by unfold sv_L; omega
def sv_lt (t : Nat) : Bool := decide (97 ≤ t ∧ t ≤ 122)
theorem sv_ltL {t : Nat} : sv_lt t = true ↔ 97 ≤ t ∧ t ≤ 122 := by unfold sv_lt; exact decide_eq_true_iff
def sv_r (tk nx : Nat → Nat) (to p : Nat) : Nat :=
  let first := if p + 1 < to then nx (p + 1) else 0
  let second := if 0 < first ∧ first < to then nx first else 0
  if tk p = 3 then (if p + 2 < to ∧ sv_lt (tk (p + 1)) = true ∧ sv_lt (tk (p + 2)) = true then p + 3 else 0)
  else if tk p < 10 ∨ 20 ≤ tk p then p + 1 else if tk p < 12 then second else first
def sv (tk : Nat → Nat) (to : Nat) : Nat → Nat → Nat
  | 0 => fun _ => 0
  | d + 1 => fun x => if x = to - 1 - d then sv_r tk (sv tk to d) to x else sv tk to d x
/-- what the survey's ends are -/
def sv_N (tk nx : Nat → Nat) (b to : Nat) : Prop := ∀ p, b ≤ p → p < to → nx p = sv_r tk nx to p ∧ (nx p = 0 ∨ (p < nx p ∧ nx p ≤ to))
theorem sv_r_c {tk nx nx' : Nat → Nat} {to p : Nat} (h : ∀ x, p < x → x < to → nx' x = nx x) (hb : p + 1 < to → nx (p + 1) = 0 ∨ (p + 1 < nx (p + 1) ∧ nx (p + 1) ≤ to)) : sv_r tk nx' to p = sv_r tk nx to p := by
  have e1 : (if p + 1 < to then nx' (p + 1) else 0) = (if p + 1 < to then nx (p + 1) else 0) := by
    by_cases z : p + 1 < to
    · rw [if_pos z, if_pos z, h _ (by omega) z]
    · rw [if_neg z, if_neg z]
  unfold sv_r
  simp only [e1]
  by_cases z : p + 1 < to
  · simp only [if_pos z]
    by_cases y : 0 < nx (p + 1) ∧ nx (p + 1) < to
    · simp only [if_pos y]
      rw [h (nx (p + 1)) (by have := hb z; omega) y.2]
    · simp only [if_neg y]
  · simp only [if_neg z]
    simp
theorem sv_r_b {tk nx : Nat → Nat} {to p : Nat} (hp : p < to) (h : ∀ x, p < x → x < to → nx x = 0 ∨ (x < nx x ∧ nx x ≤ to)) : sv_r tk nx to p = 0 ∨ (p < sv_r tk nx to p ∧ sv_r tk nx to p ≤ to) := by
  have e1 : (if p + 1 < to then nx (p + 1) else 0) = 0 ∨ (p < (if p + 1 < to then nx (p + 1) else 0) ∧ (if p + 1 < to then nx (p + 1) else 0) ≤ to) := by
    by_cases z : p + 1 < to
    · rw [if_pos z]
      have := h (p + 1) (by omega) z
      omega
    · rw [if_neg z]; exact Or.inl rfl
  unfold sv_r
  simp only
  generalize (if p + 1 < to then nx (p + 1) else 0) = f at e1 ⊢
  have e2 : (if 0 < f ∧ f < to then nx f else 0) = 0 ∨ (p < (if 0 < f ∧ f < to then nx f else 0) ∧ (if 0 < f ∧ f < to then nx f else 0) ≤ to) := by
    by_cases z : 0 < f ∧ f < to
    · rw [if_pos z]
      have := h f (by omega) z.2
      omega
    · rw [if_neg z]; exact Or.inl rfl
  generalize (if 0 < f ∧ f < to then nx f else 0) = s at e2 ⊢
  by_cases t3 : tk p = 3
  · rw [if_pos t3]
    by_cases z : p + 2 < to ∧ sv_lt (tk (p + 1)) = true ∧ sv_lt (tk (p + 2)) = true
    · rw [if_pos z]; omega
    · rw [if_neg z]; exact Or.inl rfl
  · rw [if_neg t3]
    by_cases t10 : tk p < 10 ∨ 20 ≤ tk p
    · rw [if_pos t10]; omega
    · rw [if_neg t10]
      by_cases t12 : tk p < 12
      · rw [if_pos t12]; exact e2
      · rw [if_neg t12]; exact e1
theorem sv_ok {tk : Nat → Nat} {to : Nat} : ∀ d, d ≤ to → sv_N tk (sv tk to d) (to - d) to
  | 0, _ => fun p h1 h2 => absurd h2 (by omega)
  | d + 1, hd => by
    have ih := sv_ok (tk := tk) (to := to) d (by omega)
    have hkeep : ∀ x, to - 1 - d < x → sv tk to (d + 1) x = sv tk to d x := fun x hx => if_neg (by omega)
    intro p h1 h2
    by_cases z : p = to - 1 - d
    · have e1 : sv tk to (d + 1) p = sv_r tk (sv tk to d) to p := if_pos z
      have hb : ∀ x, p < x → x < to → sv tk to d x = 0 ∨ (x < sv tk to d x ∧ sv tk to d x ≤ to) := fun x hx hx' => (ih x (by omega) hx').2
      have e2 : sv_r tk (sv tk to (d + 1)) to p = sv_r tk (sv tk to d) to p := sv_r_c (fun x hx _ => hkeep x (by omega)) (fun hp => hb (p + 1) (by omega) hp)
      rw [e1, e2]
      exact ⟨rfl, sv_r_b h2 hb⟩
    · have hp := ih p (by omega) h2
      rw [hkeep p (by omega)]
      refine ⟨?_, hp.2⟩
      rw [sv_r_c (nx := sv tk to d) (fun x hx _ => hkeep x (by omega)) (fun hp' => (ih (p + 1) (by omega) hp').2)]
      exact hp.1
/-- the ends are unique -/
theorem sv_u {tk tk' nx nx' : Nat → Nat} {b to : Nat} (ht : ∀ p, b ≤ p → p < to → tk' p = tk p) (h : sv_N tk nx b to) (h' : sv_N tk' nx' b to) : ∀ d p, b ≤ p → p < to → to - p ≤ d → nx' p = nx p
  | 0, p, _, h2, h3 => absurd h2 (by omega)
  | d + 1, p, h1, h2, h3 => by
    have ih := sv_u ht h h' d
    rw [(h p h1 h2).1, (h' p h1 h2).1]
    have e1 : sv_r tk' nx' to p = sv_r tk' nx to p := sv_r_c (fun x hx hx' => ih x (by omega) hx' (by omega)) (fun hp => (h (p + 1) (by omega) hp).2)
    rw [e1]
    unfold sv_r
    rw [ht p h1 h2]
    by_cases z : p + 2 < to
    · rw [ht (p + 1) (by omega) (by omega), ht (p + 2) (by omega) z]
    · have : ¬ (p + 2 < to ∧ sv_lt (tk' (p + 1)) = true ∧ sv_lt (tk' (p + 2)) = true) := fun q => z q.1
      have this' : ¬ (p + 2 < to ∧ sv_lt (tk (p + 1)) = true ∧ sv_lt (tk (p + 2)) = true) := fun q => z q.1
      simp only [if_neg this, if_neg this']
/-- facts of a cell -/
theorem sv_cl {tk nx : Nat → Nat} {b to e : Nat} (h : sv_N tk nx b to) (hv : ∀ p, b ≤ p → p < to → pg_tv (tk p)) (h1 : b ≤ e) (h2 : e < to) (h0 : 0 < nx e) : pg_cl tk nx to e := by
  obtain ⟨a1, a2⟩ := h e h1 h2
  have tv := hv e h1 h2
  refine ⟨tv, by omega, by omega, fun t => ?_, fun t => ?_, fun t => ?_, fun t => ?_⟩
  · unfold sv_r at a1
    simp only [if_pos t] at a1
    by_cases z : e + 2 < to ∧ sv_lt (tk (e + 1)) = true ∧ sv_lt (tk (e + 2)) = true
    · rw [if_pos z] at a1
      have z1 := sv_ltL.mp z.2.1
      have z2 := sv_ltL.mp z.2.2
      exact ⟨a1, z1.1, z1.2, z2.1, z2.2⟩
    · rw [if_neg z] at a1
      omega
  · unfold sv_r at a1
    simp only [if_neg (show ¬ tk e = 3 by omega), if_neg (show ¬ (tk e < 10 ∨ 20 ≤ tk e) by omega), if_pos (show tk e < 12 by omega)] at a1
    by_cases z : e + 1 < to
    · simp only [if_pos z] at a1
      by_cases y : 0 < nx (e + 1) ∧ nx (e + 1) < to
      · rw [if_pos y] at a1
        exact ⟨z, y.1, y.2, by omega, a1⟩
      · rw [if_neg y] at a1
        omega
    · simp only [if_neg z] at a1
      simp at a1
      omega
  · unfold sv_r at a1
    simp only [if_neg (show ¬ tk e = 3 by omega), if_neg (show ¬ (tk e < 10 ∨ 20 ≤ tk e) by omega), if_neg (show ¬ tk e < 12 by omega)] at a1
    by_cases z : e + 1 < to
    · rw [if_pos z] at a1
      exact ⟨z, by omega, a1⟩
    · rw [if_neg z] at a1
      omega
  · unfold sv_r at a1
    simp only [if_neg (show ¬ tk e = 3 by omega), if_pos (show tk e < 10 ∨ 20 ≤ tk e by omega)] at a1
    exact a1
/-! the count of missing operands -/
def sv_d (t s : Nat) : Nat := if t = 10 ∨ t = 11 then s + 1 else if 12 ≤ t ∧ t ≤ 16 then s else s - 1
def sv_wf (pt : Nat → Nat) (n : Nat) : Nat → Nat → Nat → Bool
  | 0, _, _ => false
  | f + 1, k, s => if n ≤ k ∨ s = 0 then decide (s = 0 ∧ k = n)
    else if pt k = 3 then (if k + 3 ≤ n ∧ sv_lt (pt (k + 1)) = true ∧ sv_lt (pt (k + 2)) = true then sv_wf pt n f (k + 3) (sv_d (pt k) s) else false)
    else sv_wf pt n f (k + 1) (sv_d (pt k) s)
theorem sv_wf_e {pt : Nat → Nat} {n f s : Nat} (hf : 0 < f) (hs : 0 < s) : sv_wf pt n f n s = false := by
  obtain ⟨f, rfl⟩ : ∃ q, f = q + 1 := ⟨f - 1, by omega⟩
  unfold sv_wf
  rw [if_pos (Or.inl (Nat.le_refl n))]
  exact decide_eq_false (by omega)
theorem sv_AB {tk nx pt : Nat → Nat} {b n : Nat} (ht : ∀ k, k < n → tk (b + k) = pt k) (hv : ∀ k, k < n → pg_tv (pt k)) (h : sv_N tk nx b (b + n)) : ∀ d k s f, n - k ≤ d → k < n → n - k < f →
    (nx (b + k) ≠ 0 → ∃ f', n - (nx (b + k) - b) < f' ∧ sv_wf pt n f k (s + 1) = sv_wf pt n f' (nx (b + k) - b) s) ∧ (nx (b + k) = 0 → sv_wf pt n f k (s + 1) = false) := by
  intro d
  induction d with
  | zero => intro k s f h1 h2; omega
  | succ d ih =>
    intro k s f h1 h2 hf
    obtain ⟨f, rfl⟩ : ∃ q, f = q + 1 := ⟨f - 1, by omega⟩
    obtain ⟨a1, a2⟩ := h (b + k) (by omega) (by omega)
    have tk0 := ht k h2
    have tv := hv k h2
    unfold pg_tv at tv
    have e0 : sv_wf pt n (f + 1) k (s + 1) = (if pt k = 3 then (if k + 3 ≤ n ∧ sv_lt (pt (k + 1)) = true ∧ sv_lt (pt (k + 2)) = true then sv_wf pt n f (k + 3) (sv_d (pt k) (s + 1)) else false) else sv_wf pt n f (k + 1) (sv_d (pt k) (s + 1))) := by
      conv => lhs; unfold sv_wf
      rw [if_neg (by omega)]
    rw [e0]
    unfold sv_r at a1
    simp only [tk0] at a1
    by_cases t3 : pt k = 3
    · simp only [if_pos t3] at a1 ⊢
      by_cases z : k + 3 ≤ n
      · rw [show b + k + 1 = b + (k + 1) by omega, show b + k + 2 = b + (k + 2) by omega, ht (k + 1) (by omega), ht (k + 2) (by omega)] at a1
        by_cases y : sv_lt (pt (k + 1)) = true ∧ sv_lt (pt (k + 2)) = true
        · rw [if_pos ⟨by omega, y⟩] at a1
          rw [if_pos ⟨z, y⟩]
          refine ⟨fun _ => ⟨f, by omega, ?_⟩, fun q => by omega⟩
          rw [a1, show b + k + 3 - b = k + 3 by omega]
          have : sv_d (pt k) (s + 1) = s := by unfold sv_d; rw [t3]; simp
          rw [this]
        · rw [if_neg (fun q => y q.2)] at a1
          rw [if_neg (fun q => y q.2)]
          exact ⟨fun q => absurd a1 q, fun _ => rfl⟩
      · rw [if_neg (fun q => by omega)] at a1
        rw [if_neg (fun q => z q.1)]
        exact ⟨fun q => absurd a1 q, fun _ => rfl⟩
    · simp only [if_neg t3] at a1 ⊢
      by_cases t10 : pt k < 10 ∨ 20 ≤ pt k
      · simp only [if_pos t10] at a1
        refine ⟨fun _ => ⟨f, by omega, ?_⟩, fun q => by omega⟩
        rw [a1, show b + k + 1 - b = k + 1 by omega]
        have : sv_d (pt k) (s + 1) = s := by unfold sv_d; rw [if_neg (by omega), if_neg (by omega)]; rfl
        rw [this]
      · simp only [if_neg t10] at a1
        by_cases z : k + 1 < n
        · have ihk := fun s' => ih (k + 1) s' f (by omega) z (by omega)
          rw [show b + (k + 1) = b + k + 1 by omega] at ihk
          have hb1 := (h (b + k + 1) (by omega) (by omega)).2
          simp only [if_pos (show b + k + 1 < b + n by omega)] at a1
          by_cases t12 : pt k < 12
          · simp only [if_pos t12] at a1
            have ed : sv_d (pt k) (s + 1) = s + 1 + 1 := by unfold sv_d; rw [if_pos (by omega)]
            rw [ed]
            by_cases y : nx (b + k + 1) = 0
            · rw [if_neg (by omega)] at a1
              exact ⟨fun q => absurd a1 q, fun _ => (ihk (s + 1)).2 y⟩
            · obtain ⟨f1, hf1, e1⟩ := (ihk (s + 1)).1 y
              rw [e1]
              by_cases w : nx (b + k + 1) < b + n
              · rw [if_pos ⟨by omega, w⟩] at a1
                have ebb : b + (nx (b + k + 1) - b) = nx (b + k + 1) := by omega
                have ih2 := ih (nx (b + k + 1) - b) s f1 (by omega) (by omega) hf1
                rw [ebb, ← a1] at ih2
                exact ih2
              · rw [if_neg (by omega)] at a1
                refine ⟨fun q => absurd a1 q, fun _ => ?_⟩
                rw [show nx (b + k + 1) - b = n by omega]
                exact sv_wf_e (by omega) (by omega)
          · simp only [if_neg t12] at a1
            have ed : sv_d (pt k) (s + 1) = s + 1 := by unfold sv_d; rw [if_neg (by omega), if_pos (by omega)]
            rw [ed, a1]
            exact ihk s
        · have hn : ¬ b + k + 1 < b + n := by omega
          simp only [if_neg hn] at a1
          have a0 : nx (b + k) = 0 := by
            by_cases t12 : pt k < 12
            · simp only [if_pos t12] at a1
              simpa using a1
            · simp only [if_neg t12] at a1
              exact a1
          refine ⟨fun q => absurd a0 q, fun _ => ?_⟩
          rw [show k + 1 = n by omega]
          refine sv_wf_e (by omega) ?_
          unfold sv_d
          by_cases t12 : pt k < 12
          · rw [if_pos (by omega)]; omega
          · rw [if_neg (by omega), if_pos (by omega)]; omega
theorem sv_iff {tk nx pt : Nat → Nat} {b n : Nat} (ht : ∀ k, k < n → tk (b + k) = pt k) (hv : ∀ k, k < n → pg_tv (pt k)) (h : sv_N tk nx b (b + n)) (hn : 0 < n) : sv_wf pt n (n + 1) 0 1 = true ↔ nx b = b + n := by
  obtain ⟨h1, h2⟩ := sv_AB ht hv h n 0 0 (n + 1) (by omega) hn (by omega)
  rw [Nat.add_zero] at h1 h2
  by_cases z : nx b = 0
  · rw [show (1 : Nat) = 0 + 1 from rfl, h2 z]
    constructor
    · intro q; exact absurd q (by simp)
    · intro q; omega
  · obtain ⟨f', hf', e⟩ := h1 z
    have hb := (h b (Nat.le_refl b) (by omega)).2
    obtain ⟨f', rfl⟩ : ∃ q, f' = q + 1 := ⟨f' - 1, by omega⟩
    have e2 : sv_wf pt n (f' + 1) (nx b - b) 0 = decide (0 = 0 ∧ nx b - b = n) := by
      unfold sv_wf
      rw [if_pos (Or.inr rfl)]
    rw [show (1 : Nat) = 0 + 1 from rfl, e, e2, decide_eq_true_iff]
    omega
end
section
/-! the reference's survey and define -/
theorem yp_isL {post : Int32 → Prop} {t : Nat} (ht : t < 128) (k0 : sv_lt t = false → post 0) (k1 : sv_lt t = true → post 1) : wpY_isLetter post (nI t) := by
  refine pk_lt t 97 (fun h => k0 ?_) (fun h => pk_lt 122 t (fun h' => k0 ?_) (fun h' => k1 ?_))
  · unfold sv_lt; exact decide_eq_false (by omega)
  · unfold sv_lt; exact decide_eq_false (by omega)
  · unfold sv_lt; exact decide_eq_true (by omega)
theorem xp_isL {post : Int32 → Prop} {t : Nat} (ht : t < 128) (k0 : sv_lt t = false → post 0) (k1 : sv_lt t = true → post 1) : wpX_isLetter post (nI t) := by
  refine pk_lt t 97 (fun h => k0 ?_) (fun h => pk_lt 122 t (fun h' => k0 ?_) (fun h' => k1 ?_))
  · unfold sv_lt; exact decide_eq_false (by omega)
  · unfold sv_lt; exact decide_eq_false (by omega)
  · unfold sv_lt; exact decide_eq_true (by omega)
section
variable {f_length f_tasks f_keptNodes : Int32} {a_tok a_len a_next a_text a_does a_again a_taskCell a_taskPlace a_taskDepth a_kept : Nat → Int32} {tk : Nat → Nat}
theorem ys_79 {post : SY → Prop} {J : Int32 → (Nat → Int32) → (Nat → Int32) → (Nat → Int32) → (Nat → Int32) → (Nat → Int32) → (Nat → Int32) → (Nat → Int32) → (Nat → Int32) → (Nat → Int32) → (Nat → Int32) → Prop} {x2 : Int32} {p to t f s v : Nat} (hp : p < to) (hto : to ≤ 60) (ht : t < 128)
    (htk : ∀ x, p ≤ x → x < to → a_tok x = nI (tk x) ∧ tk x < 128)
    (hv : v = (if t = 3 then (if p + 2 < to ∧ sv_lt (tk (p + 1)) = true ∧ sv_lt (tk (p + 2)) = true then p + 3 else 0) else if t < 10 ∨ 20 ≤ t then p + 1 else if t < 12 then s else f))
    (k : J (nI p + (-1)) a_tok a_len (upd a_next p (nI v)) a_text a_does a_again a_taskCell a_taskPlace a_taskDepth a_kept) : wY_survey_79 post J x2 (nI to) (nI p) (nI t) (nI f) (nI s) f_length f_tasks f_keptNodes a_tok a_len a_next a_text a_does a_again a_taskCell a_taskPlace a_taskDepth a_kept := by
  have ip : vp_in (nI p) 60 := xb_in (by omega) (by omega)
  have ep : (nI p).toNatClampNeg = p := xb_c (by omega)
  have e1 : nI p + 1 = nI (p + 1) := nI_1 p
  have e2 : nI p + 2 = nI (p + 2) := nI_add p 2
  have e3 : nI p + 3 = nI (p + 3) := nI_add p 3
  have wr : ∀ x : Int32, x = nI v → (vp_in (nI p) 60 ∧ ∀ a : Nat → Int32, a = upd a_next (nI p).toNatClampNeg x → (∀ y : Int32, y = nI p + (-1) → J y a_tok a_len a a_text a_does a_again a_taskCell a_taskPlace a_taskDepth a_kept)) := fun x hx => And.intro ip (nm_r (e' := upd a_next p (nI v)) (by rw [ep, hx]) (nm_e k))
  refine pk_eq t 3 (fun t3 => ?_) (fun t3 => ?_)
  · rw [if_pos t3] at hv
    refine pk_le to (p + 2) (fun y => wr 0 ?_) (fun y => ?_) rfl e2
    · rw [if_neg (fun q => by omega)] at hv
      rw [hv]; rfl
    · obtain ⟨u1, u2⟩ := htk (p + 1) (by omega) (by omega)
      obtain ⟨u3, u4⟩ := htk (p + 2) (by omega) y
      refine And.intro (by rw [e1]; exact xb_in (by omega) (by omega)) ?_
      rw [show a_tok (nI p + 1).toNatClampNeg = nI (tk (p + 1)) by rw [e1, xb_c (by omega), u1]]
      refine yp_isL u2 (fun l => br_t rfl (wr 0 ?_)) (fun l => br_f (by decide) (And.intro (by rw [e2]; exact xb_in (by omega) (by omega)) ?_))
      · rw [if_neg (fun q => by rw [q.2.1] at l; exact absurd l (by simp))] at hv
        rw [hv]; rfl
      · rw [show a_tok (nI p + 2).toNatClampNeg = nI (tk (p + 2)) by rw [e2, xb_c (by omega), u3]]
        refine yp_isL u4 (fun l' => br_t rfl (wr 0 ?_)) (fun l' => br_f (by decide) (wr _ ?_))
        · rw [if_neg (fun q => by rw [q.2.2] at l'; exact absurd l' (by simp))] at hv
          rw [hv]; rfl
        · rw [if_pos ⟨y, l, l'⟩] at hv
          rw [hv]; exact e3
  · rw [if_neg t3] at hv
    refine pk_lt t 10 (fun y => wr _ ?_) (fun y => pk_lt t 20 (fun y2 => pk_le 12 t (fun y3 => wr _ ?_) (fun y3 => wr _ ?_)) (fun y2 => wr _ ?_))
    · rw [if_pos (Or.inl y)] at hv
      rw [hv]; exact e1
    · rw [if_neg (by omega), if_neg (by omega)] at hv
      rw [hv]
    · rw [if_neg (by omega), if_pos (by omega)] at hv
      rw [hv]
    · rw [if_pos (Or.inr y2)] at hv
      rw [hv]; exact e1
theorem ys_19 {post : SY → Prop} {b n : Nat} (hb : b + n ≤ 60) (htk : ∀ x, b ≤ x → x < b + n → a_tok x = nI (tk x) ∧ tk x < 128)
    (K : ∀ next' : Nat → Int32, (∀ x, b ≤ x → x < b + n → next' x = nI (sv tk (b + n) n x)) → (∀ x, ¬ (b ≤ x ∧ x < b + n) → next' x = a_next x) → post (f_length, f_tasks, f_keptNodes, a_tok, a_len, next', a_text, a_does, a_again, a_taskCell, a_taskPlace, a_taskDepth, a_kept)) :
    ∀ (d : Nat) (next : Nat → Int32), d ≤ n → (∀ x, b + d ≤ x → x < b + n → next x = nI (sv tk (b + n) (n - d) x)) → (∀ x, ¬ (b + d ≤ x ∧ x < b + n) → next x = a_next x) →
      wY_survey_19 post (nI b) (nI (b + n)) f_length f_tasks f_keptNodes (d + 1) (nI (b + d) + (-1)) a_tok a_len next a_text a_does a_again a_taskCell a_taskPlace a_taskDepth a_kept := by
  intro d
  induction d with
  | zero =>
    intro next hd h1 h2
    refine br_t ?_ (K next h1 h2)
    rw [Nat.add_zero]
    cases b with
    | zero => decide
    | succ b => rw [pk_m1]; exact nI_lt (by omega) (by omega)
  | succ d ih =>
    intro next hd h1 h2
    have ok := sv_ok (tk := tk) (to := b + n) (n - (d + 1)) (by omega)
    rw [show b + n - (n - (d + 1)) = b + (d + 1) by omega] at ok
    rw [show b + (d + 1) = (b + d) + 1 by omega, pk_m1]
    have ep : (nI (b + d)).toNatClampNeg = b + d := xb_c (by omega)
    obtain ⟨t1, t2⟩ := htk (b + d) (by omega) (by omega)
    have e1 : nI (b + d) + 1 = nI (b + d + 1) := nI_1 _
    have hrd : ∀ x, b + d < x → x < b + n → next x = nI (sv tk (b + n) (n - (d + 1)) x) := fun x hx hx' => h1 x (by omega) hx'
    have fin : ∀ v, v = sv_r tk (sv tk (b + n) (n - (d + 1))) (b + n) (b + d) → wY_survey_19 post (nI b) (nI (b + n)) f_length f_tasks f_keptNodes (d + 1) (nI (b + d) + (-1)) a_tok a_len (upd next (b + d) (nI v)) a_text a_does a_again a_taskCell a_taskPlace a_taskDepth a_kept := by
      intro v hv
      refine ih (upd next (b + d) (nI v)) (by omega) (fun x hx hx' => ?_) (fun x hx => ?_)
      · rw [show n - d = (n - (d + 1)) + 1 by omega]
        by_cases z : x = b + d
        · subst z
          rw [pk_us, hv]
          exact congrArg nI (if_pos (by omega)).symm
        · rw [pk_un z, hrd x (by omega) hx']
          exact congrArg nI (if_neg (by omega)).symm
      · rw [pk_un (by omega)]
        exact h2 x (by omega)
    refine br_f (nI_nlt (by omega) (by omega)) (And.intro (xb_in (by omega) (by omega)) (nm_r (e' := nI (tk (b + d))) (by rw [ep, t1]) ?_))
    have s55 : ∀ f : Nat, f = (if b + d + 1 < b + n then sv tk (b + n) (n - (d + 1)) (b + d + 1) else 0) → wY_survey_55 post (wY_survey_19 post (nI b) (nI (b + n)) f_length f_tasks f_keptNodes (d + 1)) (nI b) (nI (b + n)) (nI (b + d)) (nI (tk (b + d))) (nI f) f_length f_tasks f_keptNodes a_tok a_len next a_text a_does a_again a_taskCell a_taskPlace a_taskDepth a_kept := by
      intro f hf
      have hfb : f = 0 ∨ (b + d + 1 < f ∧ f ≤ b + n) := by
        by_cases z : b + d + 1 < b + n
        · rw [if_pos z] at hf
          have := (ok (b + d + 1) (by omega) z).2
          omega
        · rw [if_neg z] at hf; exact Or.inl hf
      have s79 : ∀ s : Nat, s = (if 0 < f ∧ f < b + n then sv tk (b + n) (n - (d + 1)) f else 0) → wY_survey_79 post (wY_survey_19 post (nI b) (nI (b + n)) f_length f_tasks f_keptNodes (d + 1)) (nI b) (nI (b + n)) (nI (b + d)) (nI (tk (b + d))) (nI f) (nI s) f_length f_tasks f_keptNodes a_tok a_len next a_text a_does a_again a_taskCell a_taskPlace a_taskDepth a_kept := by
        intro s hs
        refine ys_79 (tk := tk) (v := sv_r tk (sv tk (b + n) (n - (d + 1))) (b + n) (b + d)) (by omega) hb t2 (fun x hx hx' => htk x (by omega) hx') ?_ (fin _ rfl)
        unfold sv_r
        simp only [← hf, ← hs]
      refine pk_le f 0 (fun y => s79 0 (by rw [if_neg (by omega)])) (fun y => pk_le (b + n) f (fun y' => s79 0 (by rw [if_neg (by omega)])) (fun y' => And.intro (xb_in (by omega) (by omega)) ?_))
      rw [xb_c (by omega), hrd f (by omega) y']
      exact s79 _ (by rw [if_pos ⟨y, y'⟩])
    refine pk_le (b + n) (b + d + 1) (fun y => s55 0 (by rw [if_neg (by omega)])) (fun y => And.intro (by rw [e1]; exact xb_in (by omega) (by omega)) ?_) rfl e1
    rw [e1, xb_c (by omega), hrd _ (by omega) y]
    exact s55 _ (by rw [if_pos y])
theorem yp_survey {post : SY → Prop} {l n : Nat} (hl : l < 5) (hn : n ≤ 12) (hlen : a_len l = nI n) (htk : ∀ x, 12 * l ≤ x → x < 12 * l + n → a_tok x = nI (tk x) ∧ tk x < 128)
    (K : ∀ next' : Nat → Int32, (∀ x, 12 * l ≤ x → x < 12 * l + n → next' x = nI (sv tk (12 * l + n) n x)) → (∀ x, ¬ (12 * l ≤ x ∧ x < 12 * l + n) → next' x = a_next x) → post (f_length, f_tasks, f_keptNodes, a_tok, a_len, next', a_text, a_does, a_again, a_taskCell, a_taskPlace, a_taskDepth, a_kept)) : wpY_survey post (f_length, f_tasks, f_keptNodes, a_tok, a_len, a_next, a_text, a_does, a_again, a_taskCell, a_taskPlace, a_taskDepth, a_kept) (nI l) := by
  have e0 : 12 * nI l = nI (12 * l) := pk_mul 12 l
  refine nm_r e0 (And.intro (xb_in (by omega) (by omega)) (nm_r (e' := nI (12 * l + n)) (by rw [xb_c (by omega), hlen, nI_add]) (nm_r (e' := nI (12 * l + n) + (-1)) (Int32.sub_eq_add_neg _ _) ⟨n + 1, ?_⟩)))
  exact ys_19 (tk := tk) (by omega) htk K n a_next (Nat.le_refl n) (fun x h1 h2 => absurd h2 (by omega)) (fun x _ => rfl)
/-- the pending tokens are one expression, or none -/
def yd_wh (pt : Nat → Nat) (n : Nat) : Prop := n = 0 ∨ sv_wf pt n (n + 1) 0 1 = true
theorem yp_def_s {post : Int32 → SY → Prop} {pt : Nat → Nat} {n : Nat} {v1 : Int32} (hn : n ≤ 12) (hlen : a_len 4 = nI n) (htk : ∀ k, k < n → a_tok (48 + k) = nI (pt k) ∧ pg_tv (pt k))
    (K1 : yd_wh pt n → ∀ next' : Nat → Int32, (∀ x, x < 48 → next' x = a_next x) → wY_define_38 post v1 1 f_length f_tasks f_keptNodes a_tok a_len next' a_text a_does a_again a_taskCell a_taskPlace a_taskDepth a_kept)
    (K0 : ¬ yd_wh pt n → ∀ next' : Nat → Int32, (∀ x, x < 48 → next' x = a_next x) → wY_define_38 post v1 0 f_length f_tasks f_keptNodes a_tok a_len next' a_text a_does a_again a_taskCell a_taskPlace a_taskDepth a_kept) : wpY_define post (f_length, f_tasks, f_keptNodes, a_tok, a_len, a_next, a_text, a_does, a_again, a_taskCell, a_taskPlace, a_taskDepth, a_kept) v1 := by
  have htk' : ∀ x, 12 * 4 ≤ x → x < 12 * 4 + n → a_tok x = nI (pt (x - 48)) ∧ pt (x - 48) < 128 := fun x h1 h2 => by
    obtain ⟨u1, u2⟩ := htk (x - 48) (by omega)
    rw [show 48 + (x - 48) = x by omega] at u1
    unfold pg_tv at u2
    exact ⟨u1, by omega⟩
  unfold wpY_define
  dsimp only
  refine yp_survey (l := 4) (tk := fun x => pt (x - 48)) (by omega) hn hlen htk' (fun next' g1 g2 => ?_)
  have gk : ∀ x, x < 48 → next' x = a_next x := fun x hx => g2 x (by omega)
  refine pk_eq n 0 (fun z => K1 (Or.inl z) next' gk) (fun z => ?_) hlen
  have iff := sv_iff (tk := fun x => pt (x - 48)) (nx := sv (fun x => pt (x - 48)) (48 + n) n) (pt := pt) (b := 48) (n := n) (fun k hk => by show pt (48 + k - 48) = _; rw [show 48 + k - 48 = k by omega]) (fun k hk => (htk k hk).2)
    (by have := sv_ok (tk := fun x => pt (x - 48)) (to := 48 + n) n (by omega); rw [show 48 + n - n = 48 by omega] at this; exact this) (by omega)
  have ob := (sv_ok (tk := fun x => pt (x - 48)) (to := 48 + n) n (by omega) 48 (by omega) (by omega)).2
  refine pk_eq (sv (fun x => pt (x - 48)) (48 + n) n 48) (48 + n) (fun y => K1 (Or.inr (iff.mpr y)) next' gk) (fun y => K0 ?_ next' gk) (g1 48 (by omega) (by omega)) (by show (48 : Int32) + a_len 4 = _; rw [hlen]; exact nI_add 48 n)
  rintro (q | q)
  · exact z q
  · exact y (iff.mp q)
theorem yp_def_0 {post : Int32 → SY → Prop} {pt : Nat → Nat} {n : Nat} {v1 : Int32} (hn : n ≤ 12) (hlen : a_len 4 = nI n) (htk : ∀ k, k < n → a_tok (48 + k) = nI (pt k) ∧ pg_tv (pt k))
    (hbad : v1 < 0 ∨ 3 < v1 ∨ ¬ yd_wh pt n) (K : ∀ next' : Nat → Int32, (∀ x, x < 48 → next' x = a_next x) → post 0 (f_length, f_tasks, f_keptNodes, a_tok, upd a_len 4 0, next', a_text, a_does, a_again, a_taskCell, a_taskPlace, a_taskDepth, a_kept)) : wpY_define post (f_length, f_tasks, f_keptNodes, a_tok, a_len, a_next, a_text, a_does, a_again, a_taskCell, a_taskPlace, a_taskDepth, a_kept) v1 := by
  have fin : ∀ next' : Nat → Int32, (∀ x, x < 48 → next' x = a_next x) → wY_define_56 post v1 f_length f_tasks f_keptNodes a_tok a_len next' a_text a_does a_again a_taskCell a_taskPlace a_taskDepth a_kept := fun next' g => br_t rfl (nm_e (And.intro rfl (K next' g)))
  refine yp_def_s hn hlen htk (fun hw next' g => ?_) (fun hw next' g => ?_)
  · by_cases z : v1 < 0
    · exact br_t z (fin next' g)
    · by_cases y : 3 < v1
      · exact br_f z (br_t y (fin next' g))
      · rcases hbad with q | q | q
        · exact absurd q z
        · exact absurd q y
        · exact absurd hw q
  · by_cases z : v1 < 0
    · exact br_t z (fin next' g)
    · by_cases y : 3 < v1
      · exact br_f z (br_t y (fin next' g))
      · exact br_f z (br_f y (br_t rfl (fin next' g)))
theorem yd_65 {post : Int32 → SY → Prop} {tk' : Nat → Nat} {r n : Nat} {next0 : Nat → Int32} (hr : r < 4) (hn : n ≤ 12) (hlen : a_len 4 = nI n) (htk : ∀ k, k < n → a_tok (48 + k) = nI (tk' (12 * r + k)) ∧ tk' (12 * r + k) < 128)
    (K : ∀ (tok' next' : Nat → Int32), (∀ x, x < 60 → ¬ (12 * r ≤ x ∧ x < 12 * r + 12) → tok' x = a_tok x) → (∀ k, k < 12 → tok' (12 * r + k) = a_tok (48 + k)) → (∀ x, ¬ (12 * r ≤ x ∧ x < 12 * r + n) → next' x = next0 x) → (∀ x, 12 * r ≤ x → x < 12 * r + n → next' x = nI (sv tk' (12 * r + n) n x)) → post 1 (f_length, f_tasks, f_keptNodes, tok', upd (upd a_len r (nI n)) 4 0, next', a_text, a_does, a_again, a_taskCell, a_taskPlace, a_taskDepth, a_kept)) :
    ∀ (d i : Nat) (tok : Nat → Int32), i + d = 12 → (∀ x, x < 60 → ¬ (12 * r ≤ x ∧ x < 12 * r + i) → tok x = a_tok x) → (∀ k, k < i → tok (12 * r + k) = a_tok (48 + k)) →
      wY_define_65 post (nI r) 1 f_length f_tasks f_keptNodes (d + 1) (nI i) tok a_len next0 a_text a_does a_again a_taskCell a_taskPlace a_taskDepth a_kept := by
  intro d
  induction d with
  | zero =>
    intro i tok hi h1 h2
    obtain rfl : i = 12 := by omega
    refine br_t (by decide) (And.intro (xb_in (by omega) (by omega)) (nm_r (e' := upd a_len r (nI n)) (by rw [xb_c (by omega), hlen]) ?_))
    refine yp_survey (l := r) (n := n) (tk := tk') (by omega) hn pk_us (fun x g1 g2 => ?_) (fun next' g1 g2 => nm_e (And.intro rfl (K tok next' h1 h2 g2 g1)))
    have := htk (x - 12 * r) (by omega)
    rw [show 12 * r + (x - 12 * r) = x by omega] at this
    refine ⟨?_, this.2⟩
    rw [← this.1, ← h2 (x - 12 * r) (by omega), show 12 * r + (x - 12 * r) = x by omega]
  | succ d ih =>
    intro i tok hi h1 h2
    have e1 : 48 + nI i = nI (48 + i) := nI_add 48 i
    have e2 : 12 * nI r + nI i = nI (12 * r + i) := by rw [show 12 * nI r = nI (12 * r) from pk_mul 12 r, nI_add]
    refine br_f (nI_ge (b := 12) (by omega) (by decide)) (And.intro (by rw [e1]; exact xb_in (by omega) (by omega)) (And.intro (by rw [e2]; exact xb_in (by omega) (by omega)) (nm_r (e' := upd tok (12 * r + i) (a_tok (48 + i))) ?_ (nm_r (nI_1 i) (ih (i + 1) _ (by omega) (fun x hx hx' => ?_) (fun k hk => ?_))))))
    · rw [e1, e2, xb_c (by omega), xb_c (by omega), h1 (48 + i) (by omega) (by omega)]
    · rw [pk_un (by omega)]
      exact h1 x hx (by omega)
    · by_cases z : k = i
      · subst z; exact pk_us
      · rw [pk_un (by omega)]; exact h2 k (by omega)
theorem yp_def_1 {post : Int32 → SY → Prop} {pt tk' : Nat → Nat} {r n : Nat} (hr : r < 4) (hn : n ≤ 12) (hlen : a_len 4 = nI n) (htk : ∀ k, k < n → a_tok (48 + k) = nI (pt k) ∧ pg_tv (pt k)) (htk' : ∀ k, k < n → tk' (12 * r + k) = pt k)
    (hw : yd_wh pt n) (K : ∀ (tok' next' : Nat → Int32), (∀ x, x < 60 → ¬ (12 * r ≤ x ∧ x < 12 * r + 12) → tok' x = a_tok x) → (∀ k, k < 12 → tok' (12 * r + k) = a_tok (48 + k)) → (∀ x, x < 48 → ¬ (12 * r ≤ x ∧ x < 12 * r + n) → next' x = a_next x) → (∀ x, 12 * r ≤ x → x < 12 * r + n → next' x = nI (sv tk' (12 * r + n) n x)) → post 1 (f_length, f_tasks, f_keptNodes, tok', upd (upd a_len r (nI n)) 4 0, next', a_text, a_does, a_again, a_taskCell, a_taskPlace, a_taskDepth, a_kept)) : wpY_define post (f_length, f_tasks, f_keptNodes, a_tok, a_len, a_next, a_text, a_does, a_again, a_taskCell, a_taskPlace, a_taskDepth, a_kept) (nI r) := by
  refine yp_def_s hn hlen htk (fun _ next' g => ?_) (fun q => absurd hw q)
  refine br_f (nI_pos (by omega)) (br_f (nI_nlt (a := 3) (by omega) (by decide)) (br_f (by decide) (br_f (by decide) ⟨13, ?_⟩)))
  refine yd_65 (tk' := tk') hr hn hlen (fun k hk => ?_) (fun tok' next'' k1 k2 k3 k4 => K tok' next'' k1 k2 (fun x hx hx' => by rw [k3 x hx']; exact g x hx) k4) 12 0 a_tok rfl (fun x _ _ => rfl) (fun k hk => absurd hk (by omega))
  have := htk k hk
  rw [htk' k hk]
  refine ⟨this.1, ?_⟩
  have := this.2
  unfold pg_tv at this
  omega
end
end
section
/-! the component: is it one expression; pieces of the compiler -/
section
variable {P : SX → Prop} {f_pendingCount f_length f_sp f_pc f_at f_far f_silence f_depth f_count f_treeNodes f_emitted f_listing f_stuck : Int32} {a_pending a_text a_operation a_operand a_opens a_stage a_hole a_kept a_looked a_active a_goOn a_where a_third a_fourth a_treeRule a_treeStart a_treeEnd a_treeDepth a_part a_partEnd : Nat → Int32}
theorem xw_4 {post : Int32 → Prop} {pt : Nat → Nat} {n : Nat} (hn : n ≤ 12) (hp : ∀ k, k < n → a_pending k = nI (pt k) ∧ pg_tv (pt k)) :
    ∀ (f k s : Nat), n - k < f → k ≤ n → s ≤ 1 + k → post (if sv_wf pt n f k s = true then 1 else 0) → wX_wellFormed_4 post (nI n) f_length f_sp f_pc f_at f_far f_silence f_depth f_count f_treeNodes f_emitted f_listing f_stuck a_pending a_text a_operation a_operand a_opens a_stage a_hole a_kept a_looked a_active a_goOn a_where a_third a_fourth a_treeRule a_treeStart a_treeEnd a_treeDepth a_part a_partEnd f (nI s) (nI k) := by
  intro f
  induction f with
  | zero => intro k s h; omega
  | succ f ih =>
    intro k s h1 h2 h3 hpost
    have w111 : (n ≤ k ∨ s = 0) → wX_wellFormed_111 post (nI s) (nI k) (nI n) f_length f_sp f_pc f_at f_far f_silence f_depth f_count f_treeNodes f_emitted f_listing f_stuck a_pending a_text a_operation a_operand a_opens a_stage a_hole a_kept a_looked a_active a_goOn a_where a_third a_fourth a_treeRule a_treeStart a_treeEnd a_treeDepth a_part a_partEnd := by
      intro hz
      unfold sv_wf at hpost
      rw [if_pos hz] at hpost
      refine pk_eq s 0 (fun y => pk_eq k n (fun y' => ?_) (fun y' => ?_)) (fun y => ?_)
      · rw [if_pos (decide_eq_true ⟨y, y'⟩)] at hpost; exact hpost
      · rw [if_neg (by simp; intro; exact y')] at hpost; exact hpost
      · rw [if_neg (by simp; intro q; exact absurd q y)] at hpost; exact hpost
    refine pk_le n k (fun y => w111 (Or.inl y)) (fun y => pk_le s 0 (fun y' => w111 (Or.inr (by omega))) (fun y' => ?_))
    obtain ⟨u1, u2⟩ := hp k y
    have u3 := u2
    unfold pg_tv at u3
    refine nm_r (nI_1 k) (And.intro (xb_in (by omega) (by omega)) (nm_r (e' := nI (pt k)) (by rw [xb_c (by omega), u1]) ?_))
    have e0 : sv_wf pt n (f + 1) k s = (if pt k = 3 then (if k + 3 ≤ n ∧ sv_lt (pt (k + 1)) = true ∧ sv_lt (pt (k + 2)) = true then sv_wf pt n f (k + 3) (sv_d (pt k) s) else false) else sv_wf pt n f (k + 1) (sv_d (pt k) s)) := by
      conv => lhs; unfold sv_wf
      rw [if_neg (by omega)]
    have w60 : ∀ z0 : Int32, nI s + z0 = nI (sv_d (pt k) s) → wX_wellFormed_60 post (wX_wellFormed_4 post (nI n) f_length f_sp f_pc f_at f_far f_silence f_depth f_count f_treeNodes f_emitted f_listing f_stuck a_pending a_text a_operation a_operand a_opens a_stage a_hole a_kept a_looked a_active a_goOn a_where a_third a_fourth a_treeRule a_treeStart a_treeEnd a_treeDepth a_part a_partEnd f) (nI (k + 1)) (nI (pt k)) z0 (nI s) (nI n) f_length f_sp f_pc f_at f_far f_silence f_depth f_count f_treeNodes f_emitted f_listing f_stuck a_pending a_text a_operation a_operand a_opens a_stage a_hole a_kept a_looked a_active a_goOn a_where a_third a_fourth a_treeRule a_treeStart a_treeEnd a_treeDepth a_part a_partEnd := by
      intro z0 hz
      have hd : sv_d (pt k) s ≤ s + 1 := by
        unfold sv_d
        split
        · omega
        · split <;> omega
      refine nm_r hz (pk_eq (pt k) 3 (fun t3 => ?_) (fun t3 => ?_))
      · have e2 : nI (k + 1) + 2 = nI (k + 3) := nI_add (k + 1) 2
        have e3 : nI (k + 1) + 1 = nI (k + 2) := nI_1 (k + 1)
        refine pk_lt n (k + 3) (fun q => ?_) (fun q => ?_) rfl e2
        · have e1 : sv_wf pt n (f + 1) k s = false := by rw [e0, if_pos t3, if_neg (fun w => by omega)]
          rw [e1] at hpost
          exact hpost
        · obtain ⟨v1, v2⟩ := hp (k + 1) (by omega)
          obtain ⟨v3, v4⟩ := hp (k + 2) (by omega)
          have v2' := v2
          have v4' := v4
          unfold pg_tv at v2' v4'
          refine And.intro (xb_in (by omega) (by omega)) ?_
          rw [show a_pending (nI (k + 1)).toNatClampNeg = nI (pt (k + 1)) by rw [xb_c (by omega), v1]]
          refine xp_isL (by omega) (fun l => br_t rfl ?_) (fun l => br_f (by decide) (And.intro (by rw [e3]; exact xb_in (by omega) (by omega)) ?_))
          · have e1 : sv_wf pt n (f + 1) k s = false := by rw [e0, if_pos t3, if_neg (fun w => by rw [w.2.1] at l; exact absurd l (by simp))]
            rw [e1] at hpost
            exact hpost
          · rw [show a_pending (nI (k + 1) + 1).toNatClampNeg = nI (pt (k + 2)) by rw [e3, xb_c (by omega), v3]]
            refine xp_isL (by omega) (fun l' => br_t rfl ?_) (fun l' => br_f (by decide) (nm_r e2 ?_))
            · have e1 : sv_wf pt n (f + 1) k s = false := by rw [e0, if_pos t3, if_neg (fun w => by rw [w.2.2] at l'; exact absurd l' (by simp))]
              rw [e1] at hpost
              exact hpost
            · have e1 : sv_wf pt n (f + 1) k s = sv_wf pt n f (k + 3) (sv_d (pt k) s) := by rw [e0, if_pos t3, if_pos ⟨by omega, l, l'⟩]
              rw [e1] at hpost
              exact ih (k + 3) _ (by omega) (by omega) (by omega) hpost
      · have e1 : sv_wf pt n (f + 1) k s = sv_wf pt n f (k + 1) (sv_d (pt k) s) := by rw [e0, if_neg t3]
        rw [e1] at hpost
        exact ih (k + 1) _ (by omega) (by omega) (by omega) hpost
    refine pk_eq (pt k) 10 (fun t => w60 1 ?_) (fun t => pk_eq (pt k) 11 (fun t' => w60 1 ?_) (fun t' => pk_lt (pt k) 12 (fun t2 => w60 (-1) ?_) (fun t2 => pk_lt 16 (pt k) (fun t3 => w60 (-1) ?_) (fun t3 => w60 0 ?_))))
    · unfold sv_d; rw [if_pos (Or.inl t)]; exact nI_1 s
    · unfold sv_d; rw [if_pos (Or.inr t')]; exact nI_1 s
    · unfold sv_d; rw [if_neg (by omega), if_neg (by omega)]
      obtain ⟨s', rfl⟩ : ∃ q, s = q + 1 := ⟨s - 1, by omega⟩
      exact pk_m1 s'
    · unfold sv_d; rw [if_neg (by omega), if_neg (by omega)]
      obtain ⟨s', rfl⟩ : ∃ q, s = q + 1 := ⟨s - 1, by omega⟩
      exact pk_m1 s'
    · unfold sv_d; rw [if_neg (by omega), if_pos (by omega)]
      exact Int32.add_zero _
theorem xp_wf {post : Int32 → Prop} {pt : Nat → Nat} {n : Nat} (hn : n ≤ 12) (hp : ∀ k, k < n → a_pending k = nI (pt k) ∧ pg_tv (pt k)) (k : post (if sv_wf pt n (n + 1) 0 1 = true then 1 else 0)) : wpX_wellFormed post (nI n, f_length, f_sp, f_pc, f_at, f_far, f_silence, f_depth, f_count, f_treeNodes, f_emitted, f_listing, f_stuck, a_pending, a_text, a_operation, a_operand, a_opens, a_stage, a_hole, a_kept, a_looked, a_active, a_goOn, a_where, a_third, a_fourth, a_treeRule, a_treeStart, a_treeEnd, a_treeDepth, a_part, a_partEnd) :=
  ⟨n + 1, xw_4 hn hp (n + 1) 0 1 (by omega) (by omega) (by omega) k⟩
/-! the compiler's pieces -/
theorem xp_emit {c o x : Nat} (hc : c < 160) (ho : o < 128) (hx : x < 32768) (k : P (f_pendingCount, f_length, f_sp, f_pc, f_at, f_far, f_silence, f_depth, f_count, f_treeNodes, nI (c + 1), f_listing, f_stuck, a_pending, a_text, upd a_operation c (nI o), upd a_operand c (nI x), a_opens, a_stage, a_hole, a_kept, a_looked, a_active, a_goOn, a_where, a_third, a_fourth, a_treeRule, a_treeStart, a_treeEnd, a_treeDepth, a_part, a_partEnd)) : wpX_emit P (f_pendingCount, f_length, f_sp, f_pc, f_at, f_far, f_silence, f_depth, f_count, f_treeNodes, nI c, f_listing, f_stuck, a_pending, a_text, a_operation, a_operand, a_opens, a_stage, a_hole, a_kept, a_looked, a_active, a_goOn, a_where, a_third, a_fourth, a_treeRule, a_treeStart, a_treeEnd, a_treeDepth, a_part, a_partEnd) (nI o) (nI x) := by
  have i : vp_in (nI c) 160 := xb_in hc (by omega)
  have e : (nI c).toNatClampNeg = c := xb_c (by omega)
  exact And.intro i (nm_r (e' := upd a_operation c (nI o)) (by rw [e, xb_b ho]) (nm_r (nI_1 c) (And.intro i (nm_r (e' := upd a_operand c (nI x)) (by rw [e, xb_s hx]) k))))
theorem xp_stg {s : Nat} (h : s < 10) : vp_nar .byte ((nI s + 1).toInt8.toInt32) = nI (s + 1) := by
  rw [nI_1]; exact xb_b (by omega)
section
variable {Q : Int32 → SX → Prop} {o c h s : Nat}
theorem xa_10 (ho : o < 16) (hs : a_stage o = nI s) (hs2 : s < 10) (ht : a_opens o = nI 10) (k0 : s ≠ 1 → Q 0 (f_pendingCount, f_length, f_sp, f_pc, f_at, f_far, f_silence, f_depth, f_count, f_treeNodes, f_emitted, f_listing, f_stuck, a_pending, a_text, a_operation, a_operand, a_opens, upd a_stage o (nI (s + 1)), a_hole, a_kept, a_looked, a_active, a_goOn, a_where, a_third, a_fourth, a_treeRule, a_treeStart, a_treeEnd, a_treeDepth, a_part, a_partEnd)) (k1 : s = 1 → Q 1 (f_pendingCount, f_length, f_sp, f_pc, f_at, f_far, f_silence, f_depth, f_count, f_treeNodes, f_emitted, f_listing, f_stuck, a_pending, a_text, a_operation, a_operand, a_opens, upd a_stage o (nI (s + 1)), a_hole, a_kept, a_looked, a_active, a_goOn, a_where, a_third, a_fourth, a_treeRule, a_treeStart, a_treeEnd, a_treeDepth, a_part, a_partEnd)) : wpX_after Q (f_pendingCount, f_length, f_sp, f_pc, f_at, f_far, f_silence, f_depth, f_count, f_treeNodes, f_emitted, f_listing, f_stuck, a_pending, a_text, a_operation, a_operand, a_opens, a_stage, a_hole, a_kept, a_looked, a_active, a_goOn, a_where, a_third, a_fourth, a_treeRule, a_treeStart, a_treeEnd, a_treeDepth, a_part, a_partEnd) (nI o) := by
  have io : vp_in (nI o) 16 := xb_in ho (by omega)
  have eo : (nI o).toNatClampNeg = o := xb_c (by omega)
  refine And.intro io (nm_e (And.intro io (And.intro io (nm_r (e' := upd a_stage o (nI (s + 1))) (by rw [eo, hs, xp_stg hs2]) (And.intro io (nm_r (e' := nI 10) (by rw [eo, ht]) ?_))))))
  exact br_f (by decide) (br_f (by decide) (br_t rfl (And.intro io (pk_eq (s + 1) 2 (fun y => k1 (by omega)) (fun y => k0 (by omega)) (by rw [eo, pk_us])))))
theorem xa_11 (ho : o < 16) (hh : a_hole o = nI h) (hs : a_stage o = nI s) (hs2 : s < 10) (hh2 : h < 160) (hc : c < 158) (ht : a_opens o = nI 11)
    (k0 : s = 0 → Q 0 (f_pendingCount, f_length, f_sp, f_pc, f_at, f_far, f_silence, f_depth, f_count, f_treeNodes, nI (c + 1), f_listing, f_stuck, a_pending, a_text, upd a_operation c (nI 6), upd (upd a_operand c (nI 0)) h (nI (c + 1)), a_opens, upd a_stage o (nI (s + 1)), upd a_hole o (nI c), a_kept, a_looked, a_active, a_goOn, a_where, a_third, a_fourth, a_treeRule, a_treeStart, a_treeEnd, a_treeDepth, a_part, a_partEnd))
    (k1 : s ≠ 0 → Q 1 (f_pendingCount, f_length, f_sp, f_pc, f_at, f_far, f_silence, f_depth, f_count, f_treeNodes, nI c, f_listing, f_stuck, a_pending, a_text, a_operation, upd a_operand h (nI c), a_opens, upd a_stage o (nI (s + 1)), a_hole, a_kept, a_looked, a_active, a_goOn, a_where, a_third, a_fourth, a_treeRule, a_treeStart, a_treeEnd, a_treeDepth, a_part, a_partEnd)) : wpX_after Q (f_pendingCount, f_length, f_sp, f_pc, f_at, f_far, f_silence, f_depth, f_count, f_treeNodes, nI c, f_listing, f_stuck, a_pending, a_text, a_operation, a_operand, a_opens, a_stage, a_hole, a_kept, a_looked, a_active, a_goOn, a_where, a_third, a_fourth, a_treeRule, a_treeStart, a_treeEnd, a_treeDepth, a_part, a_partEnd) (nI o) := by
  have io : vp_in (nI o) 16 := xb_in ho (by omega)
  have eo : (nI o).toNatClampNeg = o := xb_c (by omega)
  have ih : vp_in (nI h) 160 := xb_in hh2 (by omega)
  have eh : (nI h).toNatClampNeg = h := xb_c (by omega)
  refine And.intro io (nm_r (e' := nI h) (by rw [eo, hh]) (And.intro io (And.intro io (nm_r (e' := upd a_stage o (nI (s + 1))) (by rw [eo, hs, xp_stg hs2]) (And.intro io (nm_r (e' := nI 11) (by rw [eo, ht]) ?_))))))
  refine br_f (by decide) (br_f (by decide) (br_f (by decide) (br_t rfl (And.intro io (pk_eq (s + 1) 1 (fun y => And.intro io (nm_r (e' := upd a_hole o (nI c)) (by rw [eo, xb_s (by omega)]) ?_)) (fun y => And.intro ih (nm_r (e' := upd a_operand h (nI c)) (by rw [eh, xb_s (by omega)]) (k1 (by omega)))) (by rw [eo, pk_us]))))))
  exact xp_emit (o := 6) (x := 0) (by omega) (by omega) (by omega) (And.intro ih (nm_r (e' := upd (upd a_operand c (nI 0)) h (nI (c + 1))) (by rw [eh, xb_s (by omega)]) (k0 (by omega))))
theorem xa_12 (ho : o < 16) (hh : a_hole o = nI h) (hs : a_stage o = nI s) (hs2 : s < 10) (hh2 : h < 160) (hc : c < 158) (ht : a_opens o = nI 12)
    (k : Q 1 (f_pendingCount, f_length, f_sp, f_pc, f_at, f_far, f_silence, f_depth, f_count, f_treeNodes, nI (c + 1), f_listing, f_stuck, a_pending, a_text, upd a_operation c (nI 7), upd (upd a_operand c (nI (h + 1))) h (nI (c + 1)), a_opens, upd a_stage o (nI (s + 1)), a_hole, a_kept, a_looked, a_active, a_goOn, a_where, a_third, a_fourth, a_treeRule, a_treeStart, a_treeEnd, a_treeDepth, a_part, a_partEnd)) : wpX_after Q (f_pendingCount, f_length, f_sp, f_pc, f_at, f_far, f_silence, f_depth, f_count, f_treeNodes, nI c, f_listing, f_stuck, a_pending, a_text, a_operation, a_operand, a_opens, a_stage, a_hole, a_kept, a_looked, a_active, a_goOn, a_where, a_third, a_fourth, a_treeRule, a_treeStart, a_treeEnd, a_treeDepth, a_part, a_partEnd) (nI o) := by
  have io : vp_in (nI o) 16 := xb_in ho (by omega)
  have eo : (nI o).toNatClampNeg = o := xb_c (by omega)
  have ih : vp_in (nI h) 160 := xb_in hh2 (by omega)
  have eh : (nI h).toNatClampNeg = h := xb_c (by omega)
  refine And.intro io (nm_r (e' := nI h) (by rw [eo, hh]) (And.intro io (And.intro io (nm_r (e' := upd a_stage o (nI (s + 1))) (by rw [eo, hs, xp_stg hs2]) (And.intro io (nm_r (e' := nI 12) (by rw [eo, ht]) ?_))))))
  refine br_f (by decide) (br_f (by decide) (br_f (by decide) (br_f (by decide) (br_t rfl ?_))))
  rw [nI_1 h]
  exact xp_emit (o := 7) (by omega) (by omega) (by omega) (And.intro ih (nm_r (e' := upd (upd a_operand c (nI (h + 1))) h (nI (c + 1))) (by rw [eh, xb_s (by omega)]) k))
theorem xa_13 (ho : o < 16) (hh : a_hole o = nI h) (hs : a_stage o = nI s) (hs2 : s < 10) (hh2 : h < 160) (hc : c < 158) (ht : a_opens o = nI 13)
    (k : Q 1 (f_pendingCount, f_length, f_sp, f_pc, f_at, f_far, f_silence, f_depth, f_count, f_treeNodes, nI (c + 2), f_listing, f_stuck, a_pending, a_text, upd (upd a_operation c (nI 12)) (c + 1) (nI 11), upd (upd (upd a_operand c (nI (h + 1))) h (nI (c + 1))) (c + 1) (nI 0), a_opens, upd a_stage o (nI (s + 1)), a_hole, a_kept, a_looked, a_active, a_goOn, a_where, a_third, a_fourth, a_treeRule, a_treeStart, a_treeEnd, a_treeDepth, a_part, a_partEnd)) : wpX_after Q (f_pendingCount, f_length, f_sp, f_pc, f_at, f_far, f_silence, f_depth, f_count, f_treeNodes, nI c, f_listing, f_stuck, a_pending, a_text, a_operation, a_operand, a_opens, a_stage, a_hole, a_kept, a_looked, a_active, a_goOn, a_where, a_third, a_fourth, a_treeRule, a_treeStart, a_treeEnd, a_treeDepth, a_part, a_partEnd) (nI o) := by
  have io : vp_in (nI o) 16 := xb_in ho (by omega)
  have eo : (nI o).toNatClampNeg = o := xb_c (by omega)
  have ih : vp_in (nI h) 160 := xb_in hh2 (by omega)
  have eh : (nI h).toNatClampNeg = h := xb_c (by omega)
  refine And.intro io (nm_r (e' := nI h) (by rw [eo, hh]) (And.intro io (And.intro io (nm_r (e' := upd a_stage o (nI (s + 1))) (by rw [eo, hs, xp_stg hs2]) (And.intro io (nm_r (e' := nI 13) (by rw [eo, ht]) ?_))))))
  refine br_f (by decide) (br_f (by decide) (br_f (by decide) (br_f (by decide) (br_f (by decide) (br_t rfl ?_)))))
  rw [nI_1 h]
  refine xp_emit (o := 12) (by omega) (by omega) (by omega) (And.intro ih (nm_r (e' := upd (upd a_operand c (nI (h + 1))) h (nI (c + 1))) (by rw [eh, xb_s (by omega)]) ?_))
  exact xp_emit (o := 11) (x := 0) (by omega) (by omega) (by omega) k
theorem xa_14 (ho : o < 16) (hh : a_hole o = nI h) (hs : a_stage o = nI s) (hs2 : s < 10) (hh2 : h < 160) (hc : c < 158) (ht : a_opens o = nI 14)
    (k : Q 1 (f_pendingCount, f_length, f_sp, f_pc, f_at, f_far, f_silence, f_depth, f_count, f_treeNodes, nI (c + 1), f_listing, f_stuck, a_pending, a_text, upd a_operation c (nI 6), upd (upd a_operand c (nI (c + 1))) h (nI (c + 1)), a_opens, upd a_stage o (nI (s + 1)), a_hole, a_kept, a_looked, a_active, a_goOn, a_where, a_third, a_fourth, a_treeRule, a_treeStart, a_treeEnd, a_treeDepth, a_part, a_partEnd)) : wpX_after Q (f_pendingCount, f_length, f_sp, f_pc, f_at, f_far, f_silence, f_depth, f_count, f_treeNodes, nI c, f_listing, f_stuck, a_pending, a_text, a_operation, a_operand, a_opens, a_stage, a_hole, a_kept, a_looked, a_active, a_goOn, a_where, a_third, a_fourth, a_treeRule, a_treeStart, a_treeEnd, a_treeDepth, a_part, a_partEnd) (nI o) := by
  have io : vp_in (nI o) 16 := xb_in ho (by omega)
  have eo : (nI o).toNatClampNeg = o := xb_c (by omega)
  have ih : vp_in (nI h) 160 := xb_in hh2 (by omega)
  have eh : (nI h).toNatClampNeg = h := xb_c (by omega)
  refine And.intro io (nm_r (e' := nI h) (by rw [eo, hh]) (And.intro io (And.intro io (nm_r (e' := upd a_stage o (nI (s + 1))) (by rw [eo, hs, xp_stg hs2]) (And.intro io (nm_r (e' := nI 14) (by rw [eo, ht]) ?_))))))
  refine br_f (by decide) (br_f (by decide) (br_f (by decide) (br_f (by decide) (br_f (by decide) (br_f (by decide) (br_t rfl ?_))))))
  rw [nI_1 c]
  exact xp_emit (o := 6) (by omega) (by omega) (by omega) (And.intro ih (nm_r (e' := upd (upd a_operand c (nI (c + 1))) h (nI (c + 1))) (by rw [eh, xb_s (by omega)]) k))
theorem xa_15 (ho : o < 16) (hh : a_hole o = nI h) (hs : a_stage o = nI s) (hs2 : s < 10) (hh2 : h < 160) (hc : c < 158) (ht : a_opens o = nI 15)
    (k : Q 1 (f_pendingCount, f_length, f_sp, f_pc, f_at, f_far, f_silence, f_depth, f_count, f_treeNodes, nI (c + 2), f_listing, f_stuck, a_pending, a_text, upd (upd a_operation c (nI 9)) (c + 1) (nI 11), upd (upd (upd a_operand c (nI (c + 2))) h (nI (c + 1))) (c + 1) (nI 0), a_opens, upd a_stage o (nI (s + 1)), a_hole, a_kept, a_looked, a_active, a_goOn, a_where, a_third, a_fourth, a_treeRule, a_treeStart, a_treeEnd, a_treeDepth, a_part, a_partEnd)) : wpX_after Q (f_pendingCount, f_length, f_sp, f_pc, f_at, f_far, f_silence, f_depth, f_count, f_treeNodes, nI c, f_listing, f_stuck, a_pending, a_text, a_operation, a_operand, a_opens, a_stage, a_hole, a_kept, a_looked, a_active, a_goOn, a_where, a_third, a_fourth, a_treeRule, a_treeStart, a_treeEnd, a_treeDepth, a_part, a_partEnd) (nI o) := by
  have io : vp_in (nI o) 16 := xb_in ho (by omega)
  have eo : (nI o).toNatClampNeg = o := xb_c (by omega)
  have ih : vp_in (nI h) 160 := xb_in hh2 (by omega)
  have eh : (nI h).toNatClampNeg = h := xb_c (by omega)
  refine And.intro io (nm_r (e' := nI h) (by rw [eo, hh]) (And.intro io (And.intro io (nm_r (e' := upd a_stage o (nI (s + 1))) (by rw [eo, hs, xp_stg hs2]) (And.intro io (nm_r (e' := nI 15) (by rw [eo, ht]) ?_))))))
  refine br_f (by decide) (br_t (by decide) ?_)
  unfold wpX_endLook
  dsimp only
  refine And.intro io (br_t (by rw [eo, ht]; rfl) ?_)
  rw [show nI c + 2 = nI (c + 2) from nI_add c 2]
  refine xp_emit (o := 9) (by omega) (by omega) (by omega) (And.intro ih (nm_r (e' := upd (upd a_operand c (nI (c + 2))) h (nI (c + 1))) (by rw [eh, xb_s (by omega)]) ?_))
  exact xp_emit (o := 11) (x := 0) (by omega) (by omega) (by omega) (And.intro rfl k)
theorem xa_16 (ho : o < 16) (hh : a_hole o = nI h) (hs : a_stage o = nI s) (hs2 : s < 10) (hh2 : h < 160) (hc : c < 158) (ht : a_opens o = nI 16)
    (k : Q 1 (f_pendingCount, f_length, f_sp, f_pc, f_at, f_far, f_silence, f_depth, f_count, f_treeNodes, nI (c + 1), f_listing, f_stuck, a_pending, a_text, upd a_operation c (nI 10), upd (upd a_operand c (nI 0)) h (nI (c + 1)), a_opens, upd a_stage o (nI (s + 1)), a_hole, a_kept, a_looked, a_active, a_goOn, a_where, a_third, a_fourth, a_treeRule, a_treeStart, a_treeEnd, a_treeDepth, a_part, a_partEnd)) : wpX_after Q (f_pendingCount, f_length, f_sp, f_pc, f_at, f_far, f_silence, f_depth, f_count, f_treeNodes, nI c, f_listing, f_stuck, a_pending, a_text, a_operation, a_operand, a_opens, a_stage, a_hole, a_kept, a_looked, a_active, a_goOn, a_where, a_third, a_fourth, a_treeRule, a_treeStart, a_treeEnd, a_treeDepth, a_part, a_partEnd) (nI o) := by
  have io : vp_in (nI o) 16 := xb_in ho (by omega)
  have eo : (nI o).toNatClampNeg = o := xb_c (by omega)
  have ih : vp_in (nI h) 160 := xb_in hh2 (by omega)
  have eh : (nI h).toNatClampNeg = h := xb_c (by omega)
  refine And.intro io (nm_r (e' := nI h) (by rw [eo, hh]) (And.intro io (And.intro io (nm_r (e' := upd a_stage o (nI (s + 1))) (by rw [eo, hs, xp_stg hs2]) (And.intro io (nm_r (e' := nI 16) (by rw [eo, ht]) ?_))))))
  refine br_f (by decide) (br_t (by decide) ?_)
  unfold wpX_endLook
  dsimp only
  refine And.intro io (br_f (by rw [eo, ht]; decide) ?_)
  exact xp_emit (o := 10) (x := 0) (by omega) (by omega) (by omega) (And.intro ih (nm_r (e' := upd (upd a_operand c (nI 0)) h (nI (c + 1))) (by rw [eh, xb_s (by omega)]) (And.intro rfl k)))
end
end
end
section
/-! the component's compiler lays the code of each cell -/
theorem xl_mono {tk nx : Nat → Nat} {op ar : Nat → Int32} : ∀ (m e a d : Nat), xl_Lay tk nx op ar m e a d → xl_Lay tk nx op ar (m + 1) e a d := by
  intro m
  induction m with
  | zero => exact fun _ _ _ h => h.elim
  | succ m ih =>
    intro e a d h
    rcases pg_cs (t := tk e) with t | t | t | t | t | t | t | t | ⟨r, hr, t⟩ | t | t
    · rw [xl_2 t] at h ⊢; exact h
    · obtain ⟨x, h1, h2⟩ := (xl_10 t).mp h
      exact (xl_10 t).mpr ⟨x, ih _ _ _ h1, ih _ _ _ h2⟩
    · obtain ⟨x, g1, g2, h1, g3, g4, h2⟩ := (xl_11 t).mp h
      exact (xl_11 t).mpr ⟨x, g1, g2, ih _ _ _ h1, g3, g4, ih _ _ _ h2⟩
    · obtain ⟨x, g1, g2, h1, g⟩ := (xl_12 t).mp h
      exact (xl_12 t).mpr ⟨x, g1, g2, ih _ _ _ h1, g⟩
    · obtain ⟨x, g1, g2, h1, g⟩ := (xl_13 t).mp h
      exact (xl_13 t).mpr ⟨x, g1, g2, ih _ _ _ h1, g⟩
    · obtain ⟨x, g1, g2, h1, g⟩ := (xl_14 t).mp h
      exact (xl_14 t).mpr ⟨x, g1, g2, ih _ _ _ h1, g⟩
    · obtain ⟨x, g1, g2, h1, g⟩ := (xl_15 t).mp h
      exact (xl_15 t).mpr ⟨x, g1, g2, ih _ _ _ h1, g⟩
    · obtain ⟨x, g1, g2, h1, g⟩ := (xl_16 t).mp h
      exact (xl_16 t).mpr ⟨x, g1, g2, ih _ _ _ h1, g⟩
    · rw [xl_c hr t] at h ⊢; exact h
    · rw [xl_l t] at h ⊢; exact h
    · unfold xl_Lay at h ⊢
      rw [if_neg (by omega), if_neg (by omega), if_neg (by omega), if_neg (by omega), if_neg (by omega), if_neg (by omega), if_neg (by omega), if_neg (by omega), if_neg (by omega)] at h ⊢
      exact h
theorem xl_mono' {tk nx : Nat → Nat} {op ar : Nat → Int32} {m m' e a d : Nat} (h : m ≤ m') (hl : xl_Lay tk nx op ar m e a d) : xl_Lay tk nx op ar m' e a d := by
  induction h with
  | refl => exact hl
  | step _ ih => exact xl_mono _ _ _ _ ih
theorem xc_or {a b : Nat} (ha : a < 128) (hb : b < 128) : (nI a <<< ((7 : Int32) &&& 31)) ||| nI b = nI (a * 128 + b) := by
  rw [pk_shlN _ 7 (by decide) (by omega)]
  apply Int32.toBitVec_inj.mp
  apply BitVec.eq_of_toNat_eq
  rw [Int32.toBitVec_or, BitVec.toNat_or, pk_tn (by omega), pk_tn (by omega), pk_tn (by omega)]
  have := Nat.two_pow_add_eq_or_of_lt (b := b) (i := 7) (by omega) a
  rw [Nat.mul_comm a (2 ^ 7), ← this]
section
variable {P : SX → Prop} {f_pendingCount f_length f_sp f_pc f_at f_far f_silence f_depth f_count f_treeNodes f_emitted f_listing f_stuck : Int32} {a_pending a_text a_operation a_operand a_opens a_stage a_hole a_kept a_looked a_active a_goOn a_where a_third a_fourth a_treeRule a_treeStart a_treeEnd a_treeDepth a_part a_partEnd : Nat → Int32}
theorem xp_before {o c t : Nat} (ho : o < 16) (ht : a_opens o = nI t) (h1 : 11 ≤ t) (h2 : t ≤ 16) (hc : c < 158)
    (k : P (f_pendingCount, f_length, f_sp, f_pc, f_at, f_far, f_silence, f_depth, f_count, f_treeNodes, nI (c + 1), f_listing, f_stuck, a_pending, a_text, upd a_operation c (nI (if t ≤ 14 then 5 else 8)), upd a_operand c (nI 0), a_opens, a_stage, upd a_hole o (nI c), a_kept, a_looked, a_active, a_goOn, a_where, a_third, a_fourth, a_treeRule, a_treeStart, a_treeEnd, a_treeDepth, a_part, a_partEnd)) : wpX_before P (f_pendingCount, f_length, f_sp, f_pc, f_at, f_far, f_silence, f_depth, f_count, f_treeNodes, nI c, f_listing, f_stuck, a_pending, a_text, a_operation, a_operand, a_opens, a_stage, a_hole, a_kept, a_looked, a_active, a_goOn, a_where, a_third, a_fourth, a_treeRule, a_treeStart, a_treeEnd, a_treeDepth, a_part, a_partEnd) (nI o) := by
  have io : vp_in (nI o) 16 := xb_in ho (by omega)
  have eo : (nI o).toNatClampNeg = o := xb_c (by omega)
  refine And.intro io (nm_r (e' := nI t) (by rw [eo, ht]) (pk_eq t 10 (fun y => absurd y (by omega)) (fun _ => And.intro io (nm_r (e' := upd a_hole o (nI c)) (by rw [eo, xb_s (by omega)]) (pk_le t 14 (fun y => ?_) (fun y => ?_))))))
  · rw [if_pos y] at k
    exact xp_emit (o := 5) (x := 0) (by omega) (by omega) (by omega) k
  · rw [if_neg (by omega)] at k
    exact xp_emit (o := 8) (x := 0) (by omega) (by omega) (by omega) k
end

section
variable {f_pendingCount f_length f_sp f_pc f_at f_far f_silence f_depth f_count f_treeNodes f_emitted f_listing f_stuck : Int32} {a_pending a_text a_operation a_operand a_opens a_stage a_hole a_kept a_looked a_active a_goOn a_where a_third a_fourth a_treeRule a_treeStart a_treeEnd a_treeDepth a_part a_partEnd : Nat → Int32} {tk nx ln : Nat → Nat} {r n : Nat} {post : SX → Prop}
theorem xc_e (hG : pg_G tk nx ln) (hr : r < 4) (hn : n = ln r) (hp : ∀ k, k < n → a_pending k = nI (tk (12 * r + k))) :
    ∀ (s e o c f : Nat) (op ar os st ho : Nat → Int32), nx e - e ≤ s → 12 * r ≤ e → e < 12 * r + n → 0 < nx e → o + (nx e - e) ≤ 12 → c + 3 * (nx e - e) < 158 → 12 * r + n - e < f →
    (∀ (f' c' m : Nat) (op' ar' os' st' ho' : Nat → Int32), 12 * r + n - nx e < f' → xl_Lay tk nx op' ar' m e c c' → (∀ x, ¬ (c ≤ x ∧ x < c') → op' x = op x ∧ ar' x = ar x) → (∀ x, x < o → os' x = os x ∧ st' x = st x ∧ ho' x = ho x) →
      ∃ n61, wX_compile_61 post (wX_compile_9 post f') (nI (nx e - 12 * r - 1)) n61 (nI o) 1 (nI n) f_length f_sp f_pc f_at f_far f_silence f_depth f_count f_treeNodes (nI c') f_listing f_stuck a_pending a_text op' ar' os' st' ho' a_kept a_looked a_active a_goOn a_where a_third a_fourth a_treeRule a_treeStart a_treeEnd a_treeDepth a_part a_partEnd) →
    wX_compile_9 post f (nI o) (nI (e - 12 * r)) (nI n) f_length f_sp f_pc f_at f_far f_silence f_depth f_count f_treeNodes (nI c) f_listing f_stuck a_pending a_text op ar os st ho a_kept a_looked a_active a_goOn a_where a_third a_fourth a_treeRule a_treeStart a_treeEnd a_treeDepth a_part a_partEnd := by
  have hn12 := (hG r hr).1
  have hp' : ∀ k, k < n → a_pending k = nI (tk (12 * r + k)) := hp
  intro s
  induction s with
  | zero =>
    intro e o c f op ar os st ho hs h1 h2 h0
    have := (pg_C_v hG ⟨r, hr, h1, by omega, h0⟩).2.1
    omega
  | succ s ih =>
    intro e o c f op ar os st ho hs h1 h2 h0 ho12 hc hf K
    have he : pg_C nx ln e := ⟨r, hr, h1, by omega, h0⟩
    have hv := pg_C_v hG he
    have hrange : nx e ≤ 12 * r + n := by
      obtain ⟨_, _, h3⟩ := hG r hr
      have := (h3 e h1 (by omega) h0).2.2.1
      omega
    obtain ⟨f, rfl⟩ : ∃ q, f = q + 1 := ⟨f - 1, by omega⟩
    have htv := hv.1
    unfold pg_tv at htv
    have ex : (nI (e - 12 * r)).toNatClampNeg = e - 12 * r := xb_c (by omega)
    have et : a_pending (e - 12 * r) = nI (tk e) := by rw [hp' _ (by omega), show 12 * r + (e - 12 * r) = e by omega]
    have io : vp_in (nI o) 16 := xb_in (by omega) (by omega)
    have eo : (nI o).toNatClampNeg = o := xb_c (by omega)
    have io1 : nI (e - 12 * r) + 1 = nI (e + 1 - 12 * r) := by rw [nI_1]; exact congrArg nI (by omega)
    -- leaves
    have leaf : ∀ (d m : Nat) (op' ar' : Nat → Int32), xl_Lay tk nx op' ar' m e c d → (∀ x, ¬ (c ≤ x ∧ x < d) → op' x = op x ∧ ar' x = ar x) → ∀ rr : Int32, nI (e - 12 * r) + rr = nI (nx e - 12 * r - 1) →
        (∀ x3_114 : Int32, x3_114 = nI (e - 12 * r) + rr → ∃ n61 : Nat, wX_compile_61 post (wX_compile_9 post f) x3_114 n61 (nI o) 1 (nI n) f_length f_sp f_pc f_at f_far f_silence f_depth f_count f_treeNodes (nI d) f_listing f_stuck a_pending a_text op' ar' os st ho a_kept a_looked a_active a_goOn a_where a_third a_fourth a_treeRule a_treeStart a_treeEnd a_treeDepth a_part a_partEnd) := by
      intro d m op' ar' hl hx rr hrr
      exact nm_r hrr (K f d m op' ar' os st ho (by omega) hl hx (fun x _ => ⟨rfl, rfl, rfl⟩))
    have go1 : (tk e < 10 ∨ 16 < tk e) → wX_compile_39 post (wX_compile_9 post f) (nI o) (nI (e - 12 * r)) (nI (tk e)) (nI n) f_length f_sp f_pc f_at f_far f_silence f_depth f_count f_treeNodes (nI c) f_listing f_stuck a_pending a_text op ar os st ho a_kept a_looked a_active a_goOn a_where a_third a_fourth a_treeRule a_treeStart a_treeEnd a_treeDepth a_part a_partEnd →
        wX_compile_9 post (f + 1) (nI o) (nI (e - 12 * r)) (nI n) f_length f_sp f_pc f_at f_far f_silence f_depth f_count f_treeNodes (nI c) f_listing f_stuck a_pending a_text op ar os st ho a_kept a_looked a_active a_goOn a_where a_third a_fourth a_treeRule a_treeStart a_treeEnd a_treeDepth a_part a_partEnd := by
      intro ht k
      refine br_f (nI_ge (by omega) (by omega)) (And.intro (xb_in (by omega) (by omega)) (nm_r (e' := nI (tk e)) (by rw [ex, et]) (pk_lt (tk e) 10 (fun _ => k) (fun y => pk_le (tk e) 16 (fun y' => absurd ht (by omega)) (fun _ => k)))))
    -- a construct begins
    have go0 : ∀ t : Nat, tk e = t → 10 ≤ t → t ≤ 16 → wpX_before (fun u => match u with | (f_pendingCount, f_length, f_sp, f_pc, f_at, f_far, f_silence, f_depth, f_count, f_treeNodes, f_emitted, f_listing, f_stuck, a_pending, a_text, a_operation, a_operand, a_opens, a_stage, a_hole, a_kept, a_looked, a_active, a_goOn, a_where, a_third, a_fourth, a_treeRule, a_treeStart, a_treeEnd, a_treeDepth, a_part, a_partEnd) => (∀ x3_79 : Int32, x3_79 = nI (e - 12 * r) + 1 → (wX_compile_9 post f (nI (o + 1)) x3_79 f_pendingCount f_length f_sp f_pc f_at f_far f_silence f_depth f_count f_treeNodes f_emitted f_listing f_stuck a_pending a_text a_operation a_operand a_opens a_stage a_hole a_kept a_looked a_active a_goOn a_where a_third a_fourth a_treeRule a_treeStart a_treeEnd a_treeDepth a_part a_partEnd))) (nI n, f_length, f_sp, f_pc, f_at, f_far, f_silence, f_depth, f_count, f_treeNodes, nI c, f_listing, f_stuck, a_pending, a_text, op, ar, upd os o (nI t), upd st o (nI 0), ho, a_kept, a_looked, a_active, a_goOn, a_where, a_third, a_fourth, a_treeRule, a_treeStart, a_treeEnd, a_treeDepth, a_part, a_partEnd) (nI o) →
        wX_compile_9 post (f + 1) (nI o) (nI (e - 12 * r)) (nI n) f_length f_sp f_pc f_at f_far f_silence f_depth f_count f_treeNodes (nI c) f_listing f_stuck a_pending a_text op ar os st ho a_kept a_looked a_active a_goOn a_where a_third a_fourth a_treeRule a_treeStart a_treeEnd a_treeDepth a_part a_partEnd := by
      intro t ht h10 h16 k
      refine br_f (nI_ge (by omega) (by omega)) (And.intro (xb_in (by omega) (by omega)) (nm_r (e' := nI (tk e)) (by rw [ex, et]) (pk_lt (tk e) 10 (fun y => absurd y (by omega)) (fun _ => pk_le (tk e) 16 (fun _ => ?_) (fun y => absurd y (by omega))))))
      refine br_t rfl (And.intro io (nm_r (e' := upd os o (nI t)) (by rw [eo, ht, xb_b (by omega)]) (And.intro io (nm_r (e' := upd st o (nI 0)) (by rw [eo]; rfl) (nm_r (nI_1 o) k)))))
    rcases pg_tc hv.1 with t | t | t | t | t | t | t | t | ⟨q, hq, t⟩ | t
    · -- empty
      have hnx := hv.2.2.2 (by omega)
      refine go1 (by omega) (br_f (by decide) (br_t (by rw [t]; decide) (br_f (by rw [t]; decide) (br_f (by rw [t]; decide) (br_t (by rw [t]; rfl) ?_)))))
      exact leaf c 1 op ar ((xl_2 t).mpr rfl) (fun x _ => ⟨rfl, rfl⟩) 0 (by rw [Int32.add_zero]; exact congrArg nI (by omega))
    · -- a sequence
      obtain ⟨s1, s2, s3, s4, s5⟩ := pg_C_b hG he (Or.inl t)
      refine go0 10 t (by omega) (by omega) (And.intro io (nm_r (e' := nI 10) (by rw [eo, pk_us]) (br_t rfl (nm_r io1 ?_))))
      refine ih (e + 1) (o + 1) c f op ar _ _ _ (by omega) (by omega) (by omega) (by omega) (by omega) (by omega) (by omega) (fun f1 x m1 op1 ar1 os1 st1 ho1 hf1 l1 hx1 hk1 => ?_)
      have z1 := xl_sz hG _ _ _ _ s1 l1
      have hk := hk1 o (by omega)
      have e2 : nI (nx (e + 1) - 12 * r - 1) + 1 = nI (nx (e + 1) - 12 * r) := by rw [nI_1]; exact congrArg nI (by omega)
      refine ⟨1 + 1, br_f (by decide) (br_f (nI_nle (by omega) (by omega)) ?_)⟩
      rw [nI_pred]
      refine xa_10 (s := 0) (by omega) (by rw [hk.2.1, pk_us]) (by omega) (by rw [hk.1, pk_us]) (fun _ => br_t rfl (br_t rfl (nm_r e2 ?_))) (fun y => absurd y (by omega))
      refine ih (nx (e + 1)) (o + 1) x f1 op1 ar1 _ _ _ (by omega) (by omega) (by omega) (by omega) (by omega) (by omega) (by omega) (fun f2 d m2 op2 ar2 os2 st2 ho2 hf2 l2 hx2 hk2 => ?_)
      have z2 := xl_sz hG _ _ _ _ s2 l2
      have hkk := hk2 o (by omega)
      obtain ⟨n61, fin⟩ := K f2 d (m1 + m2 + 1) op2 ar2 os2 (upd st2 o (nI 2)) ho2 (by omega)
        ((xl_10 t).mpr ⟨x, xl_mono' (by omega) (xl_fr hG _ _ _ _ s1 l1 (fun y u v => hx2 y (by omega))), xl_mono' (by omega) l2⟩)
        (fun y hy => ⟨(hx2 y (by omega)).1.trans (hx1 y (by omega)).1, (hx2 y (by omega)).2.trans (hx1 y (by omega)).2⟩)
        (fun y hy => by
          have a := hk2 y (by omega)
          have b := hk1 y (by omega)
          rw [pk_un (by omega)] at a
          rw [pk_un (by omega), pk_un (by omega)] at b
          rw [pk_un (by omega)]
          exact ⟨a.1.trans b.1, a.2.1.trans b.2.1, a.2.2.trans b.2.2⟩)
      refine ⟨n61 + 1, br_f (by decide) (br_f (nI_nle (by omega) (by omega)) ?_)⟩
      rw [nI_pred, s5]
      refine xa_10 (s := 1) (by omega) (by rw [hkk.2.1, pk_us]) (by omega) (by rw [hkk.1, hk.1, pk_us]) (fun y => absurd rfl y) (fun _ => br_f (by decide) (nm_r (pk_m1 o) fin))
    · -- a choice
      obtain ⟨s1, s2, s3, s4, s5⟩ := pg_C_b hG he (Or.inr t)
      refine go0 11 t (by omega) (by omega) (xp_before (t := 11) (by omega) pk_us (by omega) (by omega) (by omega) (nm_r io1 ?_))
      refine ih (e + 1) (o + 1) (c + 1) f _ _ _ _ _ (by omega) (by omega) (by omega) (by omega) (by omega) (by omega) (by omega) (fun f1 x m1 op1 ar1 os1 st1 ho1 hf1 l1 hx1 hk1 => ?_)
      have z1 := xl_sz hG _ _ _ _ s1 l1
      have hk := hk1 o (by omega)
      have hc1 := hx1 c (by omega)
      rw [pk_us, pk_us] at hc1
      have e2 : nI (nx (e + 1) - 12 * r - 1) + 1 = nI (nx (e + 1) - 12 * r) := by rw [nI_1]; exact congrArg nI (by omega)
      refine ⟨1 + 1, br_f (by decide) (br_f (nI_nle (by omega) (by omega)) ?_)⟩
      rw [nI_pred]
      refine xa_11 (s := 0) (h := c) (by omega) (by rw [hk.2.2, pk_us]) (by rw [hk.2.1, pk_us]) (by omega) (by omega) (by omega) (by rw [hk.1, pk_us]) (fun _ => br_t rfl (br_t rfl (nm_r e2 ?_))) (fun y => absurd rfl y)
      refine ih (nx (e + 1)) (o + 1) (x + 1) f1 _ _ _ _ _ (by omega) (by omega) (by omega) (by omega) (by omega) (by omega) (by omega) (fun f2 d m2 op2 ar2 os2 st2 ho2 hf2 l2 hx2 hk2 => ?_)
      have z2 := xl_sz hG _ _ _ _ s2 l2
      have hkk := hk2 o (by omega)
      have hxx := hx2 x (by omega)
      have hcc := hx2 c (by omega)
      rw [pk_us, pk_un (show x ≠ c by omega), pk_us] at hxx
      rw [pk_un (show c ≠ x by omega), pk_us] at hcc
      obtain ⟨n61, fin⟩ := K f2 d (m1 + m2 + 1) op2 (upd ar2 x (nI d)) os2 (upd st2 o (nI 2)) ho2 (by omega)
        ((xl_11 t).mpr ⟨x, by rw [hcc.1, hc1.1]; rfl, by rw [pk_un (by omega), hcc.2], xl_mono' (by omega) (xl_fr hG _ _ _ _ s1 l1 (fun y u v => by
            have a := hx2 y (by omega)
            rw [pk_un (by omega), pk_un (by omega), pk_un (by omega)] at a
            rw [pk_un (by omega)]
            exact a)), hxx.1, pk_us, xl_mono' (by omega) (xl_fr hG _ _ _ _ s2 l2 (fun y u v => ⟨rfl, pk_un (by omega)⟩))⟩)
        (fun y hy => by
          have a := hx2 y (by omega)
          have b := hx1 y (by omega)
          rw [pk_un (by omega), pk_un (by omega), pk_un (by omega)] at a
          rw [pk_un (by omega), pk_un (by omega)] at b
          rw [pk_un (by omega)]
          exact ⟨a.1.trans b.1, a.2.trans b.2⟩)
        (fun y hy => by
          have a := hk2 y (by omega)
          have b := hk1 y (by omega)
          rw [pk_un (by omega), pk_un (by omega)] at a
          rw [pk_un (by omega), pk_un (by omega), pk_un (by omega)] at b
          rw [pk_un (by omega)]
          exact ⟨a.1.trans b.1, a.2.1.trans b.2.1, a.2.2.trans b.2.2⟩)
      refine ⟨n61 + 1, br_f (by decide) (br_f (nI_nle (by omega) (by omega)) ?_)⟩
      rw [nI_pred, s5]
      refine xa_11 (s := 1) (h := x) (by omega) (by rw [hkk.2.2, pk_us]) (by rw [hkk.2.1, pk_us]) (by omega) (by omega) (by omega) (by rw [hkk.1, hk.1, pk_us]) (fun y => absurd y (by omega)) (fun _ => br_f (by decide) (nm_r (pk_m1 o) fin))
    · -- 12
      obtain ⟨s1, s2, s3⟩ := pg_C_u hG he (by omega)
      refine go0 12 t (by omega) (by omega) (xp_before (t := 12) (by omega) pk_us (by omega) (by omega) (by omega) (nm_r io1 ?_))
      refine ih (e + 1) (o + 1) (c + 1) f _ _ _ _ _ (by omega) (by omega) (by omega) (by omega) (by omega) (by omega) (by omega) (fun f1 x m1 op1 ar1 os1 st1 ho1 hf1 l1 hx1 hk1 => ?_)
      have z1 := xl_sz hG _ _ _ _ s1 l1
      have hk := hk1 o (by omega)
      have hc1 := hx1 c (by omega)
      rw [pk_us, pk_us] at hc1
      obtain ⟨n61, fin⟩ := K f1 (x + 1) (m1 + 1) (upd op1 x (nI 7)) (upd (upd ar1 x (nI (c + 1))) c (nI (x + 1))) os1 (upd st1 o (nI 1)) ho1 (by omega)
        ((xl_12 t).mpr ⟨x, by rw [pk_un (by omega), hc1.1]; rfl, by rw [pk_us], xl_fr hG _ _ _ _ s1 l1 (fun y u v => ⟨by rw [pk_un (by omega)], by rw [pk_un (by omega), pk_un (by omega)]⟩), by rw [pk_us]; rfl, by rw [pk_un (by omega), pk_us], rfl⟩)
        (fun y hy => by
          have b := hx1 y (by omega)
          rw [pk_un (by omega), pk_un (by omega)] at b
          exact ⟨by rw [pk_un (by omega)]; exact b.1, by rw [pk_un (by omega), pk_un (by omega)]; exact b.2⟩)
        (fun y hy => by
          have b := hk1 y (by omega)
          rw [pk_un (by omega), pk_un (by omega), pk_un (by omega)] at b
          rw [pk_un (by omega)]
          exact b)
      refine ⟨n61 + 1, br_f (by decide) (br_f (nI_nle (by omega) (by omega)) ?_)⟩
      rw [nI_pred, s3]
      exact xa_12 (s := 0) (h := c) (by omega) (by rw [hk.2.2, pk_us]) (by rw [hk.2.1, pk_us]) (by omega) (by omega) (by omega) (by rw [hk.1, pk_us]) (br_f (by decide) (nm_r (pk_m1 o) fin))
    · -- 13
      obtain ⟨s1, s2, s3⟩ := pg_C_u hG he (by omega)
      refine go0 13 t (by omega) (by omega) (xp_before (t := 13) (by omega) pk_us (by omega) (by omega) (by omega) (nm_r io1 ?_))
      refine ih (e + 1) (o + 1) (c + 1) f _ _ _ _ _ (by omega) (by omega) (by omega) (by omega) (by omega) (by omega) (by omega) (fun f1 x m1 op1 ar1 os1 st1 ho1 hf1 l1 hx1 hk1 => ?_)
      have z1 := xl_sz hG _ _ _ _ s1 l1
      have hk := hk1 o (by omega)
      have hc1 := hx1 c (by omega)
      rw [pk_us, pk_us] at hc1
      obtain ⟨n61, fin⟩ := K f1 (x + 2) (m1 + 1) (upd (upd op1 x (nI 12)) (x + 1) (nI 11)) (upd (upd (upd ar1 x (nI (c + 1))) c (nI (x + 1))) (x + 1) (nI 0)) os1 (upd st1 o (nI 1)) ho1 (by omega)
        ((xl_13 t).mpr ⟨x, by rw [pk_un (by omega), pk_un (by omega), hc1.1]; rfl, by rw [pk_un (by omega), pk_us], xl_fr hG _ _ _ _ s1 l1 (fun y u v => ⟨by rw [pk_un (by omega), pk_un (by omega)], by rw [pk_un (by omega), pk_un (by omega), pk_un (by omega)]⟩), by rw [pk_un (by omega), pk_us]; rfl, by rw [pk_un (by omega), pk_un (by omega), pk_us], by rw [pk_us]; rfl, rfl⟩)
        (fun y hy => by
          have b := hx1 y (by omega)
          rw [pk_un (by omega), pk_un (by omega)] at b
          exact ⟨by rw [pk_un (by omega), pk_un (by omega)]; exact b.1, by rw [pk_un (by omega), pk_un (by omega), pk_un (by omega)]; exact b.2⟩)
        (fun y hy => by
          have b := hk1 y (by omega)
          rw [pk_un (by omega), pk_un (by omega), pk_un (by omega)] at b
          rw [pk_un (by omega)]
          exact b)
      refine ⟨n61 + 1, br_f (by decide) (br_f (nI_nle (by omega) (by omega)) ?_)⟩
      rw [nI_pred, s3]
      exact xa_13 (s := 0) (h := c) (by omega) (by rw [hk.2.2, pk_us]) (by rw [hk.2.1, pk_us]) (by omega) (by omega) (by omega) (by rw [hk.1, pk_us]) (br_f (by decide) (nm_r (pk_m1 o) fin))
    · -- 14
      obtain ⟨s1, s2, s3⟩ := pg_C_u hG he (by omega)
      refine go0 14 t (by omega) (by omega) (xp_before (t := 14) (by omega) pk_us (by omega) (by omega) (by omega) (nm_r io1 ?_))
      refine ih (e + 1) (o + 1) (c + 1) f _ _ _ _ _ (by omega) (by omega) (by omega) (by omega) (by omega) (by omega) (by omega) (fun f1 x m1 op1 ar1 os1 st1 ho1 hf1 l1 hx1 hk1 => ?_)
      have z1 := xl_sz hG _ _ _ _ s1 l1
      have hk := hk1 o (by omega)
      have hc1 := hx1 c (by omega)
      rw [pk_us, pk_us] at hc1
      obtain ⟨n61, fin⟩ := K f1 (x + 1) (m1 + 1) (upd op1 x (nI 6)) (upd (upd ar1 x (nI (x + 1))) c (nI (x + 1))) os1 (upd st1 o (nI 1)) ho1 (by omega)
        ((xl_14 t).mpr ⟨x, by rw [pk_un (by omega), hc1.1]; rfl, by rw [pk_us], xl_fr hG _ _ _ _ s1 l1 (fun y u v => ⟨by rw [pk_un (by omega)], by rw [pk_un (by omega), pk_un (by omega)]⟩), by rw [pk_us]; rfl, by rw [pk_un (by omega), pk_us], rfl⟩)
        (fun y hy => by
          have b := hx1 y (by omega)
          rw [pk_un (by omega), pk_un (by omega)] at b
          exact ⟨by rw [pk_un (by omega)]; exact b.1, by rw [pk_un (by omega), pk_un (by omega)]; exact b.2⟩)
        (fun y hy => by
          have b := hk1 y (by omega)
          rw [pk_un (by omega), pk_un (by omega), pk_un (by omega)] at b
          rw [pk_un (by omega)]
          exact b)
      refine ⟨n61 + 1, br_f (by decide) (br_f (nI_nle (by omega) (by omega)) ?_)⟩
      rw [nI_pred, s3]
      exact xa_14 (s := 0) (h := c) (by omega) (by rw [hk.2.2, pk_us]) (by rw [hk.2.1, pk_us]) (by omega) (by omega) (by omega) (by rw [hk.1, pk_us]) (br_f (by decide) (nm_r (pk_m1 o) fin))
    · -- 15
      obtain ⟨s1, s2, s3⟩ := pg_C_u hG he (by omega)
      refine go0 15 t (by omega) (by omega) (xp_before (t := 15) (by omega) pk_us (by omega) (by omega) (by omega) (nm_r io1 ?_))
      refine ih (e + 1) (o + 1) (c + 1) f _ _ _ _ _ (by omega) (by omega) (by omega) (by omega) (by omega) (by omega) (by omega) (fun f1 x m1 op1 ar1 os1 st1 ho1 hf1 l1 hx1 hk1 => ?_)
      have z1 := xl_sz hG _ _ _ _ s1 l1
      have hk := hk1 o (by omega)
      have hc1 := hx1 c (by omega)
      rw [pk_us, pk_us] at hc1
      obtain ⟨n61, fin⟩ := K f1 (x + 2) (m1 + 1) (upd (upd op1 x (nI 9)) (x + 1) (nI 11)) (upd (upd (upd ar1 x (nI (x + 2))) c (nI (x + 1))) (x + 1) (nI 0)) os1 (upd st1 o (nI 1)) ho1 (by omega)
        ((xl_15 t).mpr ⟨x, by rw [pk_un (by omega), pk_un (by omega), hc1.1]; rfl, by rw [pk_un (by omega), pk_us], xl_fr hG _ _ _ _ s1 l1 (fun y u v => ⟨by rw [pk_un (by omega), pk_un (by omega)], by rw [pk_un (by omega), pk_un (by omega), pk_un (by omega)]⟩), by rw [pk_un (by omega), pk_us]; rfl, by rw [pk_un (by omega), pk_un (by omega), pk_us], by rw [pk_us]; rfl, rfl⟩)
        (fun y hy => by
          have b := hx1 y (by omega)
          rw [pk_un (by omega), pk_un (by omega)] at b
          exact ⟨by rw [pk_un (by omega), pk_un (by omega)]; exact b.1, by rw [pk_un (by omega), pk_un (by omega), pk_un (by omega)]; exact b.2⟩)
        (fun y hy => by
          have b := hk1 y (by omega)
          rw [pk_un (by omega), pk_un (by omega), pk_un (by omega)] at b
          rw [pk_un (by omega)]
          exact b)
      refine ⟨n61 + 1, br_f (by decide) (br_f (nI_nle (by omega) (by omega)) ?_)⟩
      rw [nI_pred, s3]
      exact xa_15 (s := 0) (h := c) (by omega) (by rw [hk.2.2, pk_us]) (by rw [hk.2.1, pk_us]) (by omega) (by omega) (by omega) (by rw [hk.1, pk_us]) (br_f (by decide) (nm_r (pk_m1 o) fin))
    · -- 16
      obtain ⟨s1, s2, s3⟩ := pg_C_u hG he (by omega)
      refine go0 16 t (by omega) (by omega) (xp_before (t := 16) (by omega) pk_us (by omega) (by omega) (by omega) (nm_r io1 ?_))
      refine ih (e + 1) (o + 1) (c + 1) f _ _ _ _ _ (by omega) (by omega) (by omega) (by omega) (by omega) (by omega) (by omega) (fun f1 x m1 op1 ar1 os1 st1 ho1 hf1 l1 hx1 hk1 => ?_)
      have z1 := xl_sz hG _ _ _ _ s1 l1
      have hk := hk1 o (by omega)
      have hc1 := hx1 c (by omega)
      rw [pk_us, pk_us] at hc1
      obtain ⟨n61, fin⟩ := K f1 (x + 1) (m1 + 1) (upd op1 x (nI 10)) (upd (upd ar1 x (nI 0)) c (nI (x + 1))) os1 (upd st1 o (nI 1)) ho1 (by omega)
        ((xl_16 t).mpr ⟨x, by rw [pk_un (by omega), hc1.1]; rfl, by rw [pk_us], xl_fr hG _ _ _ _ s1 l1 (fun y u v => ⟨by rw [pk_un (by omega)], by rw [pk_un (by omega), pk_un (by omega)]⟩), by rw [pk_us]; rfl, rfl⟩)
        (fun y hy => by
          have b := hx1 y (by omega)
          rw [pk_un (by omega), pk_un (by omega)] at b
          exact ⟨by rw [pk_un (by omega)]; exact b.1, by rw [pk_un (by omega), pk_un (by omega)]; exact b.2⟩)
        (fun y hy => by
          have b := hk1 y (by omega)
          rw [pk_un (by omega), pk_un (by omega), pk_un (by omega)] at b
          rw [pk_un (by omega)]
          exact b)
      refine ⟨n61 + 1, br_f (by decide) (br_f (nI_nle (by omega) (by omega)) ?_)⟩
      rw [nI_pred, s3]
      exact xa_16 (s := 0) (h := c) (by omega) (by rw [hk.2.2, pk_us]) (by rw [hk.2.1, pk_us]) (by omega) (by omega) (by omega) (by rw [hk.1, pk_us]) (br_f (by decide) (nm_r (pk_m1 o) fin))
    · -- a call
      have hnx := hv.2.2.2 (by omega)
      have er : nI (tk e) - 20 = nI q := by
        have := pk_sub (a := 20 + q) (b := 20) (by omega)
        rw [show 20 + q - 20 = q by omega, ← t] at this
        exact this
      refine go1 (by omega) (br_f (by decide) (br_f (nI_nlt (b := 20) (by omega) (by omega)) (br_f (nI_ge (b := 24) (by omega) (by omega)) ?_)))
      rw [er]
      refine xp_emit (o := 3) (by omega) (by omega) (by omega) (leaf (c + 1) 1 _ _ ((xl_c hq t).mpr ⟨pk_us, pk_us, rfl⟩) (fun x hx => ⟨pk_un (by omega), pk_un (by omega)⟩) 0 (by rw [Int32.add_zero]; exact congrArg nI (by omega)))
    · -- a letter
      have l24 : wX_leaf_24 (fun r_80 u => match u with | (f_pendingCount, f_length, f_sp, f_pc, f_at, f_far, f_silence, f_depth, f_count, f_treeNodes, f_emitted, f_listing, f_stuck, a_pending, a_text, a_operation, a_operand, a_opens, a_stage, a_hole, a_kept, a_looked, a_active, a_goOn, a_where, a_third, a_fourth, a_treeRule, a_treeStart, a_treeEnd, a_treeDepth, a_part, a_partEnd) => (∀ x3_114 : Int32, x3_114 = nI (e - 12 * r) + r_80 → (∃ n61 : Nat, wX_compile_61 post (wX_compile_9 post f) x3_114 n61 (nI o) 1 f_pendingCount f_length f_sp f_pc f_at f_far f_silence f_depth f_count f_treeNodes f_emitted f_listing f_stuck a_pending a_text a_operation a_operand a_opens a_stage a_hole a_kept a_looked a_active a_goOn a_where a_third a_fourth a_treeRule a_treeStart a_treeEnd a_treeDepth a_part a_partEnd))) (nI (tk e)) (nI (e - 12 * r)) (nI n) f_length f_sp f_pc f_at f_far f_silence f_depth f_count f_treeNodes (nI c) f_listing f_stuck a_pending a_text op ar os st ho a_kept a_looked a_active a_goOn a_where a_third a_fourth a_treeRule a_treeStart a_treeEnd a_treeDepth a_part a_partEnd := by
        rcases t with t1 | t1 | t1
        · have hnx := hv.2.2.2 (by omega)
          refine br_t (by rw [t1]; rfl) ?_
          exact xp_emit (o := 2) (x := 0) (by omega) (by omega) (by omega) (leaf (c + 1) 1 _ _ ((xl_l (Or.inl t1)).mpr ⟨Or.inl ⟨t1, pk_us⟩, rfl⟩) (fun x hx => ⟨pk_un (by omega), pk_un (by omega)⟩) 0 (by rw [Int32.add_zero]; exact congrArg nI (by omega)))
        · obtain ⟨hnx, q1, q2, q3, q4⟩ := hv.2.2.1 t1
          have e2 : nI (e - 12 * r) + 1 = nI (e - 12 * r + 1) := nI_1 _
          have e3 : nI (e - 12 * r) + 2 = nI (e - 12 * r + 2) := nI_add _ 2
          refine br_f (by rw [t1]; decide) (br_t (by rw [t1]; rfl) (And.intro (by rw [e2]; exact xb_in (by omega) (by omega)) (And.intro (by rw [e3]; exact xb_in (by omega) (by omega)) ?_)))
          rw [show a_pending (nI (e - 12 * r) + 1).toNatClampNeg = nI (tk (e + 1)) by rw [e2, xb_c (by omega), hp' _ (by omega)]; exact congrArg nI (congrArg tk (by omega)),
            show a_pending (nI (e - 12 * r) + 2).toNatClampNeg = nI (tk (e + 2)) by rw [e3, xb_c (by omega), hp' _ (by omega)]; exact congrArg nI (congrArg tk (by omega)), xc_or (by omega) (by omega)]
          exact xp_emit (o := 1) (by omega) (by omega) (by omega) (leaf (c + 1) 1 _ _ ((xl_l (Or.inr (Or.inl t1))).mpr ⟨Or.inr (Or.inl ⟨t1, pk_us, pk_us⟩), rfl⟩) (fun x hx => ⟨pk_un (by omega), pk_un (by omega)⟩) 2 (by rw [e3]; exact congrArg nI (by omega)))
        · have hnx := hv.2.2.2 (by omega)
          have ne : ∀ k : Nat, k < 24 → ¬ nI (tk e) = nI k := fun k hk y => by
            rw [nI_eq (by omega) (by omega)] at y
            omega
          refine br_f (ne 1 (by omega)) (br_f (ne 3 (by omega)) (br_f (ne 2 (by omega)) ?_))
          rw [xc_or (by omega) (by omega)]
          exact xp_emit (o := 1) (by omega) (by omega) (by omega) (leaf (c + 1) 1 _ _ ((xl_l (Or.inr (Or.inr t1))).mpr ⟨Or.inr (Or.inr ⟨t1, pk_us, pk_us⟩), rfl⟩) (fun x hx => ⟨pk_un (by omega), pk_un (by omega)⟩) 0 (by rw [Int32.add_zero]; exact congrArg nI (by omega)))
      refine go1 (by omega) (br_f (by decide) ?_)
      exact pk_lt (tk e) 20 (fun _ => l24) (fun y => pk_le 24 (tk e) (fun _ => l24) (fun y' => absurd t (by omega)))
end
end
section
/-! a new rule: the grammar, the codes; the component's define -/
theorem pg_cl_c {tk nx tk' nx' : Nat → Nat} {b to e : Nat} (h : ∀ x, b ≤ x → x < to → tk' x = tk x ∧ nx' x = nx x) (hpos : ∀ x, b ≤ x → x < to → 0 < nx x → x < nx x) (h1 : b ≤ e) (h2 : e < to) (hc : pg_cl tk nx to e) : pg_cl tk' nx' to e := by
  obtain ⟨a1, a2, a3, a4, a5, a6, a7⟩ := hc
  have he := h e h1 h2
  refine ⟨by rw [he.1]; exact a1, by rw [he.2]; exact a2, by rw [he.2]; exact a3, fun t => ?_, fun t => ?_, fun t => ?_, fun t => ?_⟩
  · rw [he.1] at t
    obtain ⟨b1, b2, b3, b4, b5⟩ := a4 t
    rw [he.2, (h (e + 1) (by omega) (by omega)).1, (h (e + 2) (by omega) (by omega)).1]
    exact ⟨b1, b2, b3, b4, b5⟩
  · rw [he.1] at t
    obtain ⟨b1, b2, b3, b4, b5⟩ := a5 t
    have g1 := (h (e + 1) (by omega) b1).2
    have := hpos (e + 1) (by omega) b1 b2
    rw [he.2, g1, (h (nx (e + 1)) (by omega) b3).2]
    exact ⟨b1, b2, b3, b4, b5⟩
  · rw [he.1] at t
    obtain ⟨b1, b2, b3⟩ := a6 t
    rw [he.2, (h (e + 1) (by omega) b1).2]
    exact ⟨b1, b2, b3⟩
  · rw [he.1] at t
    rw [he.2]
    exact a7 t
/-- the tables with a new rule -/
def nr_t (tk pt : Nat → Nat) (r : Nat) : Nat → Nat := fun e => if 12 * r ≤ e ∧ e < 12 * r + 12 then pt (e - 12 * r) else tk e
def nr_n (tk nx pt : Nat → Nat) (r n : Nat) : Nat → Nat := fun e => if 12 * r ≤ e ∧ e < 12 * r + n then sv (nr_t tk pt r) (12 * r + n) n e else nx e
def nr_l (ln : Nat → Nat) (r n : Nat) : Nat → Nat := fun q => if q = r then n else ln q
section
variable {tk nx ln pt : Nat → Nat} {r n : Nat}
theorem nr_tk {k : Nat} (hk : k < 12) : nr_t tk pt r (12 * r + k) = pt k := by
  unfold nr_t
  rw [if_pos ⟨by omega, by omega⟩, show 12 * r + k - 12 * r = k by omega]
theorem nr_sv (hn : n ≤ 12) : sv_N (nr_t tk pt r) (nr_n tk nx pt r n) (12 * r) (12 * r + n) := by
  have ok := sv_ok (tk := nr_t tk pt r) (to := 12 * r + n) n (by omega)
  rw [show 12 * r + n - n = 12 * r by omega] at ok
  have eq : ∀ x, 12 * r ≤ x → x < 12 * r + n → nr_n tk nx pt r n x = sv (nr_t tk pt r) (12 * r + n) n x := fun x h1 h2 => if_pos ⟨h1, h2⟩
  intro p h1 h2
  rw [eq p h1 h2, sv_r_c (nx := sv (nr_t tk pt r) (12 * r + n) n) (fun x hx hx' => eq x (by omega) hx') (fun hp => (ok (p + 1) (by omega) hp).2)]
  exact ok p h1 h2
/-- away from the new rule nothing changes -/
theorem nr_o {q x : Nat} (hq : q ≠ r) (hl : ln q ≤ 12) (hn : n ≤ 12) (h1 : 12 * q ≤ x) (h2 : x < 12 * q + ln q) : nr_t tk pt r x = tk x ∧ nr_n tk nx pt r n x = nx x := by
  have : ¬ (12 * r ≤ x ∧ x < 12 * r + 12) := by omega
  exact ⟨if_neg this, if_neg (by omega)⟩
theorem nr_G (hG : pg_G tk nx ln) (hn : n ≤ 12) (hv : ∀ k, k < n → pg_tv (pt k)) (hw : yd_wh pt n) : pg_G (nr_t tk pt r) (nr_n tk nx pt r n) (nr_l ln r n) := by
  have hsv := nr_sv (tk := tk) (nx := nx) (pt := pt) (r := r) hn
  intro q hq
  by_cases z : q = r
  · subst z
    have el : nr_l ln q n q = n := if_pos rfl
    rw [el]
    refine ⟨hn, fun h0 => ?_, fun e h1 h2 h3 => ?_⟩
    · rcases hw with y | y
      · omega
      · exact (sv_iff (pt := pt) (fun k hk => nr_tk (by omega)) hv hsv h0).mp y
    · refine sv_cl hsv (fun p g1 g2 => ?_) h1 h2 h3
      have := nr_tk (tk := tk) (pt := pt) (r := q) (k := p - 12 * q) (by omega)
      rw [show 12 * q + (p - 12 * q) = p by omega] at this
      rw [this]
      exact hv _ (by omega)
  · have el : nr_l ln r n q = ln q := if_neg z
    rw [el]
    obtain ⟨g1, g2, g3⟩ := hG q hq
    refine ⟨g1, fun h0 => ?_, fun e h1 h2 h3 => ?_⟩
    · rw [(nr_o z g1 hn (Nat.le_refl _) (by omega)).2]
      exact g2 h0
    · rw [(nr_o z g1 hn h1 h2).2] at h3
      exact pg_cl_c (fun x a b => nr_o z g1 hn a b) (fun x a b c => (g3 x a b c).2.1) h1 h2 (g3 e h1 h2 h3)
/-- the code of the other rules -/
theorem xl_cg {tk' nx' : Nat → Nat} {op ar : Nat → Int32} (hG : pg_G tk nx ln) {q : Nat} (hq : q < 4) (h : ∀ x, 12 * q ≤ x → x < 12 * q + ln q → tk' x = tk x ∧ nx' x = nx x) :
    ∀ (m e a d : Nat), 12 * q ≤ e → e < 12 * q + ln q → 0 < nx e → xl_Lay tk nx op ar m e a d → xl_Lay tk' nx' op ar m e a d := by
  intro m
  induction m with
  | zero => exact fun _ _ _ _ _ _ hl => hl.elim
  | succ m ih =>
    intro e a d h1 h2 h3 hl
    have he := h e h1 h2
    obtain ⟨_, _, g3⟩ := hG q hq
    obtain ⟨a1, a2, a3, a4, a5, a6, a7⟩ := g3 e h1 h2 h3
    rcases pg_tc a1 with t | t | t | t | t | t | t | t | ⟨r, hr, t⟩ | t
    · rw [xl_2 t] at hl; rw [xl_2 (by rw [he.1]; exact t)]; exact hl
    · obtain ⟨b1, b2, b3, b4, b5⟩ := a5 (Or.inl t)
      have e1 := h (e + 1) (by omega) b1
      obtain ⟨x, l1, l2⟩ := (xl_10 t).mp hl
      have := (g3 (e + 1) (by omega) b1 b2).2.1
      exact (xl_10 (by rw [he.1]; exact t)).mpr ⟨x, ih _ _ _ (by omega) b1 b2 l1, by rw [e1.2]; exact ih _ _ _ (by omega) b3 b4 l2⟩
    · obtain ⟨b1, b2, b3, b4, b5⟩ := a5 (Or.inr t)
      have e1 := h (e + 1) (by omega) b1
      obtain ⟨x, c1, c2, l1, c3, c4, l2⟩ := (xl_11 t).mp hl
      have := (g3 (e + 1) (by omega) b1 b2).2.1
      exact (xl_11 (by rw [he.1]; exact t)).mpr ⟨x, c1, c2, ih _ _ _ (by omega) b1 b2 l1, c3, c4, by rw [e1.2]; exact ih _ _ _ (by omega) b3 b4 l2⟩
    · obtain ⟨b1, b2, b3⟩ := a6 (by omega)
      obtain ⟨x, c1, c2, l1, c3⟩ := (xl_12 t).mp hl
      exact (xl_12 (by rw [he.1]; exact t)).mpr ⟨x, c1, c2, ih _ _ _ (by omega) b1 b2 l1, c3⟩
    · obtain ⟨b1, b2, b3⟩ := a6 (by omega)
      obtain ⟨x, c1, c2, l1, c3⟩ := (xl_13 t).mp hl
      exact (xl_13 (by rw [he.1]; exact t)).mpr ⟨x, c1, c2, ih _ _ _ (by omega) b1 b2 l1, c3⟩
    · obtain ⟨b1, b2, b3⟩ := a6 (by omega)
      obtain ⟨x, c1, c2, l1, c3⟩ := (xl_14 t).mp hl
      exact (xl_14 (by rw [he.1]; exact t)).mpr ⟨x, c1, c2, ih _ _ _ (by omega) b1 b2 l1, c3⟩
    · obtain ⟨b1, b2, b3⟩ := a6 (by omega)
      obtain ⟨x, c1, c2, l1, c3⟩ := (xl_15 t).mp hl
      exact (xl_15 (by rw [he.1]; exact t)).mpr ⟨x, c1, c2, ih _ _ _ (by omega) b1 b2 l1, c3⟩
    · obtain ⟨b1, b2, b3⟩ := a6 (by omega)
      obtain ⟨x, c1, c2, l1, c3⟩ := (xl_16 t).mp hl
      exact (xl_16 (by rw [he.1]; exact t)).mpr ⟨x, c1, c2, ih _ _ _ (by omega) b1 b2 l1, c3⟩
    · rw [xl_c hr t] at hl; rw [xl_c hr (by rw [he.1]; exact t)]; exact hl
    · obtain ⟨c1, c2⟩ := (xl_l t).mp hl
      refine (xl_l (by rw [he.1]; exact t)).mpr ⟨?_, c2⟩
      unfold xl_lf at c1 ⊢
      rw [he.1]
      by_cases t3 : tk e = 3
      · have b := a4 t3
        rw [(h (e + 1) (by omega) (by omega)).1, (h (e + 2) (by omega) (by omega)).1]
        exact c1
      · rcases c1 with y | y | y
        · exact Or.inl y
        · exact absurd y.1 t3
        · exact Or.inr (Or.inr y)
/-- a code begins with an operation -/
theorem xl_nz {op ar : Nat → Int32} (hG : pg_G tk nx ln) : ∀ (m e a d : Nat), pg_C nx ln e → xl_Lay tk nx op ar m e a d → a < d → op a ≠ 0 := by
  intro m
  induction m with
  | zero => exact fun _ _ _ _ h _ => h.elim
  | succ m ih =>
    intro e a d he h hlt
    have hv := pg_C_v hG he
    rcases pg_tc hv.1 with t | t | t | t | t | t | t | t | ⟨r, hr, t⟩ | t
    · rw [xl_2 t] at h; omega
    · obtain ⟨x, h1, h2⟩ := (xl_10 t).mp h
      obtain ⟨s1, s2, _⟩ := pg_C_b hG he (Or.inl t)
      have z1 := xl_sz hG _ _ _ _ s1 h1
      by_cases y : a < x
      · exact ih _ _ _ s1 h1 y
      · obtain rfl : a = x := by omega
        exact ih _ _ _ s2 h2 hlt
    · obtain ⟨x, g, _⟩ := (xl_11 t).mp h
      rw [g]; decide
    · obtain ⟨x, g, _⟩ := (xl_12 t).mp h
      rw [g]; decide
    · obtain ⟨x, g, _⟩ := (xl_13 t).mp h
      rw [g]; decide
    · obtain ⟨x, g, _⟩ := (xl_14 t).mp h
      rw [g]; decide
    · obtain ⟨x, g, _⟩ := (xl_15 t).mp h
      rw [g]; decide
    · obtain ⟨x, g, _⟩ := (xl_16 t).mp h
      rw [g]; decide
    · obtain ⟨g, _⟩ := (xl_c hr t).mp h
      rw [g]; decide
    · obtain ⟨g, _⟩ := (xl_l t).mp h
      unfold xl_lf at g
      rcases g with y | y | y
      · rw [y.2]; decide
      · rw [y.2.1]; decide
      · rw [y.2.1]; decide
end
section
variable {P : SX → Prop} {Q : Int32 → SX → Prop} {f_pendingCount f_length f_sp f_pc f_at f_far f_silence f_depth f_count f_treeNodes f_emitted f_listing f_stuck : Int32} {a_pending a_text a_operation a_operand a_opens a_stage a_hole a_kept a_looked a_active a_goOn a_where a_third a_fourth a_treeRule a_treeStart a_treeEnd a_treeDepth a_part a_partEnd : Nat → Int32}
theorem xp_forget (K : ∀ kp : Nat → Int32, (∀ q, q < 68 → kp q = -9) → P (f_pendingCount, f_length, f_sp, f_pc, f_at, f_far, f_silence, f_depth, f_count, f_treeNodes, f_emitted, f_listing, f_stuck, a_pending, a_text, a_operation, a_operand, a_opens, a_stage, a_hole, kp, a_looked, a_active, a_goOn, a_where, a_third, a_fourth, a_treeRule, a_treeStart, a_treeEnd, a_treeDepth, a_part, a_partEnd)) : wpX_forget P (f_pendingCount, f_length, f_sp, f_pc, f_at, f_far, f_silence, f_depth, f_count, f_treeNodes, f_emitted, f_listing, f_stuck, a_pending, a_text, a_operation, a_operand, a_opens, a_stage, a_hole, a_kept, a_looked, a_active, a_goOn, a_where, a_third, a_fourth, a_treeRule, a_treeStart, a_treeEnd, a_treeDepth, a_part, a_partEnd) := by
  have loop : ∀ (d i : Nat) (kp : Nat → Int32), i + d = 68 → (∀ q, q < i → kp q = -9) → wX_forget_2 P f_pendingCount f_length f_sp f_pc f_at f_far f_silence f_depth f_count f_treeNodes f_emitted f_listing f_stuck (d + 1) (nI i) a_pending a_text a_operation a_operand a_opens a_stage a_hole kp a_looked a_active a_goOn a_where a_third a_fourth a_treeRule a_treeStart a_treeEnd a_treeDepth a_part a_partEnd := by
    intro d
    induction d with
    | zero =>
      intro i kp hi hq
      obtain rfl : i = 68 := by omega
      exact br_t (by decide) (K kp hq)
    | succ d ih =>
      intro i kp hi hq
      refine br_f (nI_ge (b := 68) (by omega) (by decide)) (And.intro (xb_in (by omega) (by omega)) (nm_r (e' := upd kp i (-9)) (by rw [xb_c (by omega), xb_m9]) (nm_r (nI_1 i) (ih (i + 1) _ (by omega) (fun q hq' => ?_)))))
      by_cases z : q = i
      · subst z; exact pk_us
      · rw [pk_un z]; exact hq q (by omega)
  exact ⟨69, loop 68 0 a_kept rfl (fun q h => absurd h (by omega))⟩
theorem xp_compile {tk nx ln : Nat → Nat} {r n : Nat} (hG : pg_G tk nx ln) (hr : r < 4) (hn : n = ln r) (h0 : 0 < n) (hp : ∀ k, k < n → a_pending k = nI (tk (12 * r + k)))
    (K : ∀ (em : Int32) (c' m : Nat) (op' ar' os' st' ho' : Nat → Int32), c' ≤ 40 * r + 36 → op' c' = nI 4 → xl_Lay tk nx op' ar' m (12 * r) (40 * r) c' → (∀ x, ¬ (40 * r ≤ x ∧ x ≤ c') → op' x = a_operation x ∧ ar' x = a_operand x) → P (nI n, f_length, f_sp, f_pc, f_at, f_far, f_silence, f_depth, f_count, f_treeNodes, em, f_listing, f_stuck, a_pending, a_text, op', ar', os', st', ho', a_kept, a_looked, a_active, a_goOn, a_where, a_third, a_fourth, a_treeRule, a_treeStart, a_treeEnd, a_treeDepth, a_part, a_partEnd)) : wpX_compile P (nI n, f_length, f_sp, f_pc, f_at, f_far, f_silence, f_depth, f_count, f_treeNodes, f_emitted, f_listing, f_stuck, a_pending, a_text, a_operation, a_operand, a_opens, a_stage, a_hole, a_kept, a_looked, a_active, a_goOn, a_where, a_third, a_fourth, a_treeRule, a_treeStart, a_treeEnd, a_treeDepth, a_part, a_partEnd) (nI (40 * r)) := by
  obtain ⟨s1, s2, s3⟩ := pg_C_r hG hr (by omega)
  have key := xc_e (post := P) (f_length := f_length) (f_sp := f_sp) (f_pc := f_pc) (f_at := f_at) (f_far := f_far) (f_silence := f_silence) (f_depth := f_depth) (f_count := f_count) (f_treeNodes := f_treeNodes) (f_listing := f_listing) (f_stuck := f_stuck) (a_text := a_text) (a_kept := a_kept) (a_looked := a_looked) (a_active := a_active) (a_goOn := a_goOn) (a_where := a_where) (a_third := a_third) (a_fourth := a_fourth) (a_treeRule := a_treeRule) (a_treeStart := a_treeStart) (a_treeEnd := a_treeEnd) (a_treeDepth := a_treeDepth) (a_part := a_part) (a_partEnd := a_partEnd)
    hG hr hn hp 12 (12 * r) 0 (40 * r) (n + 1) a_operation a_operand a_opens a_stage a_hole (by omega) (Nat.le_refl _) (by omega) (by omega) (by omega) (by omega) (by omega) (fun f' c' m op' ar' os' st' ho' hf' hl hx _ => ?_)
  · rw [Nat.sub_self] at key
    exact ⟨n + 1, key⟩
  · have z := xl_sz hG _ _ _ _ s1 hl
    obtain ⟨f', rfl⟩ : ∃ q, f' = q + 1 := ⟨f' - 1, by omega⟩
    refine ⟨1, br_f (by decide) (br_t (by decide) (nm_r (e' := nI n) (by rw [nI_1]; exact congrArg nI (by omega)) (br_t (nI_le (Nat.le_refl _) (by omega)) ?_)))⟩
    refine xp_emit (o := 4) (x := 0) (by omega) (by omega) (by omega) (K _ c' m _ _ _ _ _ (by omega) pk_us (xl_fr hG _ _ _ _ s1 hl (fun x u v => ⟨pk_un (by omega), pk_un (by omega)⟩)) (fun x hx' => ?_))
    rw [pk_un (by omega), pk_un (by omega)]
    exact hx x (by omega)
theorem xp_def_0 {pt : Nat → Nat} {n : Nat} {v1 : Int32} (hn : n ≤ 12) (hp : ∀ k, k < n → a_pending k = nI (pt k) ∧ pg_tv (pt k)) (hbad : v1 < 0 ∨ 3 < v1 ∨ ¬ yd_wh pt n) (K : Q 0 (0, f_length, f_sp, f_pc, f_at, f_far, f_silence, f_depth, f_count, f_treeNodes, f_emitted, f_listing, f_stuck, a_pending, a_text, a_operation, a_operand, a_opens, a_stage, a_hole, a_kept, a_looked, a_active, a_goOn, a_where, a_third, a_fourth, a_treeRule, a_treeStart, a_treeEnd, a_treeDepth, a_part, a_partEnd)) : wpX_define Q (nI n, f_length, f_sp, f_pc, f_at, f_far, f_silence, f_depth, f_count, f_treeNodes, f_emitted, f_listing, f_stuck, a_pending, a_text, a_operation, a_operand, a_opens, a_stage, a_hole, a_kept, a_looked, a_active, a_goOn, a_where, a_third, a_fourth, a_treeRule, a_treeStart, a_treeEnd, a_treeDepth, a_part, a_partEnd) v1 := by
  have f29 : wX_define_29 Q v1 (nI n) (nI n) f_length f_sp f_pc f_at f_far f_silence f_depth f_count f_treeNodes f_emitted f_listing f_stuck a_pending a_text a_operation a_operand a_opens a_stage a_hole a_kept a_looked a_active a_goOn a_where a_third a_fourth a_treeRule a_treeStart a_treeEnd a_treeDepth a_part a_partEnd := br_t rfl (And.intro rfl K)
  by_cases z : v1 < 0
  · exact br_t z f29
  · obtain ⟨j, hj, rfl⟩ := nI_of z
    refine br_f z (pk_le 4 j (fun _ => f29) (fun y => ?_))
    have hw : ¬ yd_wh pt n := by
      rcases hbad with q | q | q
      · exact absurd q z
      · have q' : nI 3 < nI j := q
        rw [nI_ltI (by omega) hj] at q'
        omega
      · exact q
    refine pk_eq n 0 (fun y' => absurd (Or.inl y') hw) (fun y' => xp_wf hn hp ?_)
    rw [if_neg (fun q => hw (Or.inr q))]
    exact br_t rfl f29
theorem xp_def_1 {tk nx ln pt : Nat → Nat} {r n : Nat} (hr : r < 4) (hG : pg_G tk nx ln) (hln : n = ln r) (hn : n ≤ 12) (hp : ∀ k, k < n → a_pending k = nI (pt k) ∧ pg_tv (pt k)) (htk : ∀ k, k < n → tk (12 * r + k) = pt k) (hw : yd_wh pt n)
    (K0 : n = 0 → ∀ kp : Nat → Int32, (∀ q, q < 68 → kp q = -9) → Q 1 (0, f_length, f_sp, f_pc, f_at, f_far, f_silence, f_depth, f_count, f_treeNodes, f_emitted, f_listing, f_stuck, a_pending, a_text, upd a_operation (40 * r) 0, a_operand, a_opens, a_stage, a_hole, kp, a_looked, a_active, a_goOn, a_where, a_third, a_fourth, a_treeRule, a_treeStart, a_treeEnd, a_treeDepth, a_part, a_partEnd))
    (K1 : n ≠ 0 → ∀ (em : Int32) (c' m : Nat) (op' ar' os' st' ho' kp : Nat → Int32), (∀ q, q < 68 → kp q = -9) → c' ≤ 40 * r + 36 → op' c' = nI 4 → xl_Lay tk nx op' ar' m (12 * r) (40 * r) c' → (∀ x, ¬ (40 * r ≤ x ∧ x ≤ c') → op' x = a_operation x ∧ ar' x = a_operand x) → Q 1 (0, f_length, f_sp, f_pc, f_at, f_far, f_silence, f_depth, f_count, f_treeNodes, em, f_listing, f_stuck, a_pending, a_text, op', ar', os', st', ho', kp, a_looked, a_active, a_goOn, a_where, a_third, a_fourth, a_treeRule, a_treeStart, a_treeEnd, a_treeDepth, a_part, a_partEnd)) : wpX_define Q (nI n, f_length, f_sp, f_pc, f_at, f_far, f_silence, f_depth, f_count, f_treeNodes, f_emitted, f_listing, f_stuck, a_pending, a_text, a_operation, a_operand, a_opens, a_stage, a_hole, a_kept, a_looked, a_active, a_goOn, a_where, a_third, a_fourth, a_treeRule, a_treeStart, a_treeEnd, a_treeDepth, a_part, a_partEnd) (nI r) := by
  have f25 : wX_define_25 Q (nI r) (nI n) (nI n) f_length f_sp f_pc f_at f_far f_silence f_depth f_count f_treeNodes f_emitted f_listing f_stuck a_pending a_text a_operation a_operand a_opens a_stage a_hole a_kept a_looked a_active a_goOn a_where a_third a_fourth a_treeRule a_treeStart a_treeEnd a_treeDepth a_part a_partEnd := by
    refine br_f (by decide) (pk_eq n 0 (fun y => ?_) (fun y => ?_))
    · refine And.intro (by rw [xp_r40]; exact xb_in (by omega) (by omega)) (nm_r (e' := upd a_operation (40 * r) 0) (by rw [xp_r40, xb_c (by omega)]; rfl) ?_)
      exact xp_forget (fun kp hk => And.intro rfl (K0 y kp hk))
    · rw [xp_r40]
      exact xp_compile hG hr hln (by omega) (fun k hk => by rw [htk k hk]; exact (hp k hk).1) (fun em c' m op' ar' os' st' ho' h1 h2 h3 h4 => xp_forget (fun kp hk => And.intro rfl (K1 y em c' m op' ar' os' st' ho' kp hk h1 h2 h3 h4)))
  refine br_f (nI_pos (by omega)) (br_f (nI_ge (b := 4) (by omega) (by decide)) (pk_eq n 0 (fun _ => f25) (fun y => xp_wf hn hp ?_)))
  rcases hw with q | q
  · exact absurd q y
  · rw [if_pos q]
    exact br_f (by decide) f25
end
end
section
/-! the component's edits: loops over the memo -/
theorem xl_V_w {tk nx ln c c' : Nat → Nat} {N r i i' o w : Nat} (hG : pg_G tk nx ln) (hN : ∀ x, N ≤ x → c x = 0) (hr : r < 4) (hi : i ≤ N) (hv : xl_V tk nx ln c r i o w) (ha : pg_Ag c c' i i' w) :
    ∃ o' w', xl_V tk nx ln c' r i' o' w' ∧ (o = 1 → o' = 1) ∧ (2 ≤ o → o' + i = o + i') ∧ w' + i = w + i' ∧ i ≤ w ∧ w ≤ N + 1 ∧ (2 ≤ o → i + 2 ≤ o ∧ o ≤ N + 2) ∧ 1 ≤ o := by
  rcases hv with ⟨h1, h2, h3⟩ | ⟨h1, h2, n, k, p, h3⟩
  · subst h2 h3
    exact ⟨1, i', Or.inl ⟨h1, rfl, rfl⟩, fun _ => rfl, fun y => absurd y (by omega), by omega, Nat.le_refl _, by omega, fun y => absurd y (by omega), Nat.le_refl 1⟩
  · have s1 := (pg_C_r hG hr h1).1
    have hw := (pg_win hG hN c' n (12 * r) i i' s1 hi).1
    have hb := (pg_bd hG hN n (12 * r) i s1 hi).1
    rw [h3] at hw hb
    have hw1 := hw ha h2
    have hb1 := hb h2
    simp only at hw1 hb1
    rcases he : (pg_ev tk nx ln c' n).1 (12 * r) i' with ⟨o', w', k', p'⟩
    rw [he] at hw1
    simp only at hw1
    refine ⟨o', w', Or.inr ⟨h1, ?_, n, k', p', he⟩, hw1.1, hw1.2.1, hw1.2.2, hb1.1, hb1.2.1, fun y => ?_, by omega⟩
    · by_cases z : o = 1
      · have := hw1.1 z; omega
      · have := hw1.2.1 (by omega)
        have := hb1.2.2 (by omega)
        omega
    · have := hb1.2.2 y
      omega
theorem xl_en_v {o : Nat} (h1 : 1 ≤ o) (h2 : o ≤ 18) : (o = 1 ∧ xl_en o = -2) ∨ ∃ j, o = j + 2 ∧ j ≤ 16 ∧ xl_en o = nI j := by
  rcases o with _ | _ | j
  · omega
  · exact Or.inl ⟨rfl, rfl⟩
  · exact Or.inr ⟨j, rfl, by omega, rfl⟩
def xe_sh (b v : Int32) : Int32 := if v < 0 then v else v + b
section
variable {P : SX → Prop} {f_pendingCount f_length f_sp f_pc f_at f_far f_silence f_depth f_count f_treeNodes f_emitted f_listing f_stuck : Int32} {a_pending a_text a_operation a_operand a_opens a_stage a_hole a_kept a_looked a_active a_goOn a_where a_third a_fourth a_treeRule a_treeStart a_treeEnd a_treeDepth a_part a_partEnd : Nat → Int32}
theorem xp_drop {q : Nat} (hq : q ≤ 16) (K : ∀ kp' : Nat → Int32, (∀ r i, r < 4 → i ≤ 16 → kp' (17 * r + i) = if i = q then -9 else a_kept (17 * r + i)) → P (f_pendingCount, f_length, f_sp, f_pc, f_at, f_far, f_silence, f_depth, f_count, f_treeNodes, f_emitted, f_listing, f_stuck, a_pending, a_text, a_operation, a_operand, a_opens, a_stage, a_hole, kp', a_looked, a_active, a_goOn, a_where, a_third, a_fourth, a_treeRule, a_treeStart, a_treeEnd, a_treeDepth, a_part, a_partEnd)) : wpX_drop P (f_pendingCount, f_length, f_sp, f_pc, f_at, f_far, f_silence, f_depth, f_count, f_treeNodes, f_emitted, f_listing, f_stuck, a_pending, a_text, a_operation, a_operand, a_opens, a_stage, a_hole, a_kept, a_looked, a_active, a_goOn, a_where, a_third, a_fourth, a_treeRule, a_treeStart, a_treeEnd, a_treeDepth, a_part, a_partEnd) (nI q) := by
  have loop : ∀ (d s : Nat) (kp : Nat → Int32), s + d = 4 → (∀ r i, r < 4 → i ≤ 16 → kp (17 * r + i) = if i = q ∧ r < s then -9 else a_kept (17 * r + i)) → wX_drop_2 P f_pendingCount f_length f_sp f_pc f_at f_far f_silence f_depth f_count f_treeNodes f_emitted f_listing f_stuck (d + 1) (nI (17 * s + q)) a_pending a_text a_operation a_operand a_opens a_stage a_hole kp a_looked a_active a_goOn a_where a_third a_fourth a_treeRule a_treeStart a_treeEnd a_treeDepth a_part a_partEnd := by
    intro d
    induction d with
    | zero =>
      intro s kp hs hk
      obtain rfl : s = 4 := by omega
      refine br_t (nI_le (a := 68) (by omega) (by omega)) (K kp (fun r i hr hi => ?_))
      rw [hk r i hr hi]
      by_cases z : i = q
      · rw [if_pos ⟨z, hr⟩, if_pos z]
      · rw [if_neg (fun y => z y.1), if_neg z]
    | succ d ih =>
      intro s kp hs hk
      refine br_f (nI_ge (b := 68) (by omega) (by decide)) (And.intro (xb_in (by omega) (by omega)) (nm_r (e' := upd kp (17 * s + q) (-9)) (by rw [xb_c (by omega), xb_m9]) (nm_r (e' := nI (17 * (s + 1) + q)) ?_ (ih (s + 1) _ (by omega) (fun r i hr hi => ?_)))))
      · rw [show nI (17 * s + q) + 17 = nI (17 * s + q + 17) from nI_add _ 17]
        exact congrArg nI (by omega)
      · by_cases z : 17 * r + i = 17 * s + q
        · rw [z, pk_us, if_pos ⟨by omega, by omega⟩]
        · rw [pk_un z, hk r i hr hi]
          by_cases y : i = q ∧ r < s
          · rw [if_pos y, if_pos ⟨y.1, by omega⟩]
          · rw [if_neg y, if_neg (by omega)]
  refine ⟨5, ?_⟩
  have := loop 4 0 a_kept rfl (fun r i hr hi => by rw [if_neg (by omega)])
  rw [show 17 * 0 + q = q by omega] at this
  exact this
theorem xp_dropL {q : Nat} (hq : q ≤ 16) (K : ∀ kp' : Nat → Int32, (∀ r i, r < 4 → i ≤ 16 → ((i < q ∧ ¬ a_looked (17 * r + i) ≤ nI q) → kp' (17 * r + i) = -9) ∧ (¬ (i < q ∧ ¬ a_looked (17 * r + i) ≤ nI q) → kp' (17 * r + i) = a_kept (17 * r + i))) → P (f_pendingCount, f_length, f_sp, f_pc, f_at, f_far, f_silence, f_depth, f_count, f_treeNodes, f_emitted, f_listing, f_stuck, a_pending, a_text, a_operation, a_operand, a_opens, a_stage, a_hole, kp', a_looked, a_active, a_goOn, a_where, a_third, a_fourth, a_treeRule, a_treeStart, a_treeEnd, a_treeDepth, a_part, a_partEnd)) : wpX_dropLooking P (f_pendingCount, f_length, f_sp, f_pc, f_at, f_far, f_silence, f_depth, f_count, f_treeNodes, f_emitted, f_listing, f_stuck, a_pending, a_text, a_operation, a_operand, a_opens, a_stage, a_hole, a_kept, a_looked, a_active, a_goOn, a_where, a_third, a_fourth, a_treeRule, a_treeStart, a_treeEnd, a_treeDepth, a_part, a_partEnd) (nI q) := by
  have inner : ∀ (J : Int32 → (Nat → Int32) → (Nat → Int32) → (Nat → Int32) → (Nat → Int32) → (Nat → Int32) → (Nat → Int32) → (Nat → Int32) → (Nat → Int32) → (Nat → Int32) → (Nat → Int32) → (Nat → Int32) → (Nat → Int32) → (Nat → Int32) → (Nat → Int32) → (Nat → Int32) → (Nat → Int32) → (Nat → Int32) → (Nat → Int32) → (Nat → Int32) → (Nat → Int32) → Prop) (i0 : Nat), i0 ≤ 16 →
      ∀ (d s : Nat) (kp kp0 : Nat → Int32), s + d = 4 → (∀ r i, r < 4 → i ≤ 16 → ((i = i0 ∧ r < s ∧ ¬ a_looked (17 * r + i) ≤ nI q) → kp (17 * r + i) = -9) ∧ (¬ (i = i0 ∧ r < s ∧ ¬ a_looked (17 * r + i) ≤ nI q) → kp (17 * r + i) = kp0 (17 * r + i))) →
      (∀ kp' : Nat → Int32, (∀ r i, r < 4 → i ≤ 16 → ((i = i0 ∧ ¬ a_looked (17 * r + i) ≤ nI q) → kp' (17 * r + i) = -9) ∧ (¬ (i = i0 ∧ ¬ a_looked (17 * r + i) ≤ nI q) → kp' (17 * r + i) = kp0 (17 * r + i))) → J (nI (i0 + 1)) a_pending a_text a_operation a_operand a_opens a_stage a_hole kp' a_looked a_active a_goOn a_where a_third a_fourth a_treeRule a_treeStart a_treeEnd a_treeDepth a_part a_partEnd) →
      wX_dropLooking_9 P J (nI q) (nI i0) f_pendingCount f_length f_sp f_pc f_at f_far f_silence f_depth f_count f_treeNodes f_emitted f_listing f_stuck (d + 1) (nI (17 * s + i0)) a_pending a_text a_operation a_operand a_opens a_stage a_hole kp a_looked a_active a_goOn a_where a_third a_fourth a_treeRule a_treeStart a_treeEnd a_treeDepth a_part a_partEnd := by
    intro J i0 hi0 d
    induction d with
    | zero =>
      intro s kp kp0 hs hk KJ
      obtain rfl : s = 4 := by omega
      refine br_t (nI_le (a := 68) (by omega) (by omega)) (nm_r (nI_1 i0) (KJ kp (fun r i hr hi => ?_)))
      obtain ⟨a, b⟩ := hk r i hr hi
      exact ⟨fun y => a ⟨y.1, hr, y.2⟩, fun y => b (fun z => y ⟨z.1, z.2.2⟩)⟩
    | succ d ih =>
      intro s kp kp0 hs hk KJ
      have e17 : nI (17 * s + i0) + 17 = nI (17 * (s + 1) + i0) := by
        rw [show nI (17 * s + i0) + 17 = nI (17 * s + i0 + 17) from nI_add _ 17]
        exact congrArg nI (by omega)
      refine br_f (nI_ge (b := 68) (by omega) (by decide)) (And.intro (xb_in (by omega) (by omega)) ?_)
      rw [xb_c (by omega)]
      refine br_c (fun z => nm_r e17 (ih (s + 1) kp kp0 (by omega) (fun r i hr hi => ?_) KJ)) (fun z => And.intro (xb_in (by omega) (by omega)) (nm_r (e' := upd kp (17 * s + i0) (-9)) (by rw [xb_m9]) (nm_r e17 (ih (s + 1) _ kp0 (by omega) (fun r i hr hi => ?_) KJ))))
      · obtain ⟨a, b⟩ := hk r i hr hi
        refine ⟨fun y => ?_, fun y => ?_⟩
        · by_cases w : r = s
          · exact absurd (by rw [y.1, w]; exact z) y.2.2
          · exact a ⟨y.1, by omega, y.2.2⟩
        · exact b (fun w => y ⟨w.1, by omega, w.2.2⟩)
      · obtain ⟨a, b⟩ := hk r i hr hi
        by_cases w : 17 * r + i = 17 * s + i0
        · refine ⟨fun _ => by rw [w, pk_us], fun y => ?_⟩
          exact absurd ⟨by omega, by omega, by rw [w]; exact z⟩ y
        · rw [pk_un w]
          refine ⟨fun y => a ⟨y.1, by omega, y.2.2⟩, fun y => b (fun v => y ⟨v.1, by omega, v.2.2⟩)⟩
  have outer : ∀ (d i0 : Nat) (kp : Nat → Int32), i0 + d = q → (∀ r i, r < 4 → i ≤ 16 → ((i < i0 ∧ ¬ a_looked (17 * r + i) ≤ nI q) → kp (17 * r + i) = -9) ∧ (¬ (i < i0 ∧ ¬ a_looked (17 * r + i) ≤ nI q) → kp (17 * r + i) = a_kept (17 * r + i))) → wX_dropLooking_2 P (nI q) f_pendingCount f_length f_sp f_pc f_at f_far f_silence f_depth f_count f_treeNodes f_emitted f_listing f_stuck (d + 1) (nI i0) a_pending a_text a_operation a_operand a_opens a_stage a_hole kp a_looked a_active a_goOn a_where a_third a_fourth a_treeRule a_treeStart a_treeEnd a_treeDepth a_part a_partEnd := by
    intro d
    induction d with
    | zero =>
      intro i0 kp hi hk
      obtain rfl : i0 = q := by omega
      exact br_t (nI_le (Nat.le_refl _) (by omega)) (K kp hk)
    | succ d ih =>
      intro i0 kp hi hk
      refine br_f (nI_ge (by omega) (by omega)) ⟨5, ?_⟩
      have := inner (wX_dropLooking_2 P (nI q) f_pendingCount f_length f_sp f_pc f_at f_far f_silence f_depth f_count f_treeNodes f_emitted f_listing f_stuck (d + 1)) i0 (by omega) 4 0 kp kp rfl (fun r i hr hi => ⟨fun y => absurd y.2.1 (by omega), fun _ => rfl⟩) (fun kp' hk' => ih (i0 + 1) kp' (by omega) (fun r i hr hi => ?_))
      · rw [show 17 * 0 + i0 = i0 by omega] at this
        exact this
      · obtain ⟨a, b⟩ := hk r i hr hi
        obtain ⟨a', b'⟩ := hk' r i hr hi
        refine ⟨fun y => ?_, fun y => ?_⟩
        · by_cases w : i = i0
          · exact a' ⟨w, y.2⟩
          · rw [b' (fun v => w v.1)]
            exact a ⟨by omega, y.2⟩
        · rw [b' (fun v => y ⟨by omega, v.2⟩)]
          exact b (fun v => y ⟨by omega, v.2⟩)
  exact ⟨q + 1, outer q 0 a_kept (by omega) (fun r i hr hi => ⟨fun y => absurd y.1 (by omega), fun _ => rfl⟩)⟩
theorem xp_shift {fr to : Nat} {b : Int32} (hfr : fr ≤ 16) (hto : to ≤ 16) (hne : fr ≠ to) (hb : ∀ a, nI (a + fr) + b = nI (a + to)) (hk : ∀ r, r < 4 → vp_nar .byte (xe_sh b (a_kept (17 * r + fr))).toInt8.toInt32 = xe_sh b (a_kept (17 * r + fr)))
    (K : ∀ kp' lk' : Nat → Int32, (∀ r i, r < 4 → i ≤ 16 → (i = to → kp' (17 * r + i) = xe_sh b (a_kept (17 * r + fr)) ∧ lk' (17 * r + i) = (a_looked (17 * r + fr) + b).toInt8.toInt32) ∧ (i ≠ to → kp' (17 * r + i) = a_kept (17 * r + i) ∧ lk' (17 * r + i) = a_looked (17 * r + i))) → P (f_pendingCount, f_length, f_sp, f_pc, f_at, f_far, f_silence, f_depth, f_count, f_treeNodes, f_emitted, f_listing, f_stuck, a_pending, a_text, a_operation, a_operand, a_opens, a_stage, a_hole, kp', lk', a_active, a_goOn, a_where, a_third, a_fourth, a_treeRule, a_treeStart, a_treeEnd, a_treeDepth, a_part, a_partEnd)) : wpX_shift P (f_pendingCount, f_length, f_sp, f_pc, f_at, f_far, f_silence, f_depth, f_count, f_treeNodes, f_emitted, f_listing, f_stuck, a_pending, a_text, a_operation, a_operand, a_opens, a_stage, a_hole, a_kept, a_looked, a_active, a_goOn, a_where, a_third, a_fourth, a_treeRule, a_treeStart, a_treeEnd, a_treeDepth, a_part, a_partEnd) (nI fr) b := by
  have loop : ∀ (d s : Nat) (kp lk : Nat → Int32), s + d = 4 → (∀ r i, r < 4 → i ≤ 16 → ((i = to ∧ r < s) → kp (17 * r + i) = xe_sh b (a_kept (17 * r + fr)) ∧ lk (17 * r + i) = (a_looked (17 * r + fr) + b).toInt8.toInt32) ∧ (¬ (i = to ∧ r < s) → kp (17 * r + i) = a_kept (17 * r + i) ∧ lk (17 * r + i) = a_looked (17 * r + i))) →
      wX_shift_2 P b f_pendingCount f_length f_sp f_pc f_at f_far f_silence f_depth f_count f_treeNodes f_emitted f_listing f_stuck (d + 1) (nI (17 * s + fr)) a_pending a_text a_operation a_operand a_opens a_stage a_hole kp lk a_active a_goOn a_where a_third a_fourth a_treeRule a_treeStart a_treeEnd a_treeDepth a_part a_partEnd := by
    intro d
    induction d with
    | zero =>
      intro s kp lk hs hh
      obtain rfl : s = 4 := by omega
      refine br_t (nI_le (a := 68) (by omega) (by omega)) (K kp lk (fun r i hr hi => ?_))
      obtain ⟨x, y⟩ := hh r i hr hi
      exact ⟨fun z => x ⟨z, hr⟩, fun z => y (fun w => z w.1)⟩
    | succ d ih =>
      intro s kp lk hs hh
      have e17 : nI (17 * s + fr) + 17 = nI (17 * (s + 1) + fr) := by
        rw [show nI (17 * s + fr) + 17 = nI (17 * s + fr + 17) from nI_add _ 17]
        exact congrArg nI (by omega)
      have ix : vp_in (nI (17 * s + fr)) 68 := xb_in (by omega) (by omega)
      have ex : (nI (17 * s + fr)).toNatClampNeg = 17 * s + fr := xb_c (by omega)
      have it : vp_in (nI (17 * s + fr) + b) 68 := by rw [hb]; exact xb_in (by omega) (by omega)
      have et : (nI (17 * s + fr) + b).toNatClampNeg = 17 * s + to := by rw [hb]; exact xb_c (by omega)
      obtain ⟨k1, k2⟩ := (hh s fr (by omega) hfr).2 (by omega)
      have nxt := ih (s + 1) (upd kp (17 * s + to) (xe_sh b (a_kept (17 * s + fr)))) (upd lk (17 * s + to) (a_looked (17 * s + fr) + b).toInt8.toInt32) (by omega) (fun r i hr hi => by
        obtain ⟨x, y⟩ := hh r i hr hi
        by_cases w : 17 * r + i = 17 * s + to
        · obtain rfl : r = s := by omega
          rw [w, pk_us, pk_us]
          exact ⟨fun _ => ⟨rfl, rfl⟩, fun v => absurd ⟨by omega, by omega⟩ v⟩
        · rw [pk_un w, pk_un w]
          exact ⟨fun v => x ⟨v.1, by omega⟩, fun v => y (fun u => v ⟨u.1, by omega⟩)⟩)
      have fin : ∀ z0 : Int32, z0 = xe_sh b (a_kept (17 * s + fr)) → wX_shift_41 P (wX_shift_2 P b f_pendingCount f_length f_sp f_pc f_at f_far f_silence f_depth f_count f_treeNodes f_emitted f_listing f_stuck (d + 1)) b (nI (17 * s + fr)) z0 (nI (17 * s + fr) + b) f_pendingCount f_length f_sp f_pc f_at f_far f_silence f_depth f_count f_treeNodes f_emitted f_listing f_stuck a_pending a_text a_operation a_operand a_opens a_stage a_hole kp lk a_active a_goOn a_where a_third a_fourth a_treeRule a_treeStart a_treeEnd a_treeDepth a_part a_partEnd := by
        intro z0 hz
        exact And.intro it (nm_r (e' := upd kp (17 * s + to) (xe_sh b (a_kept (17 * s + fr)))) (by rw [et, hz, hk s (by omega)]) (And.intro ix (And.intro it (nm_r (e' := upd lk (17 * s + to) (a_looked (17 * s + fr) + b).toInt8.toInt32) (by rw [et, ex, k2, pk_vb]) (nm_r e17 nxt)))))
      refine br_f (nI_ge (b := 68) (by omega) (by decide)) (And.intro ix ?_)
      rw [ex, k1]
      refine br_c (fun z => And.intro ix (fin _ ?_)) (fun z => And.intro ix (fin _ ?_))
      · unfold xe_sh; rw [if_pos z]
      · unfold xe_sh; rw [if_neg z]
  refine ⟨5, ?_⟩
  have := loop 4 0 a_kept a_looked rfl (fun r i hr hi => ⟨fun y => absurd y.2 (by omega), fun _ => ⟨rfl, rfl⟩⟩)
  rw [show 17 * 0 + fr = fr by omega] at this
  exact this
end
end
section
/-! the component's edits: the memo stays right -/
section
variable {tk nx ln c c' : Nat → Nat} {N q : Nat} {kp lk kp2 lk2 : Nat → Int32}
theorem xe_b1 {w : Nat} (h : w ≤ 100) : (nI w + 1).toInt8.toInt32 = nI (w + 1) := by
  rw [nI_1]
  exact lg_i2b_small (by rw [nI_toInt (by omega)]; omega) (by rw [nI_toInt (by omega)]; omega)
theorem xe_bm {w : Nat} (h : w ≤ 100) : (nI (w + 1) + (-1)).toInt8.toInt32 = nI w := by
  rw [pk_m1]
  exact lg_i2b_small (by rw [nI_toInt (by omega)]; omega) (by rw [nI_toInt (by omega)]; omega)
theorem xe_low (hG : pg_G tk nx ln) (hN : ∀ x, N ≤ x → c x = 0) (hN16 : N ≤ 16) (hM : xl_M tk nx ln c N kp lk) (hq : q ≤ N) (h1 : ∀ x, x < q → c' x = c x) {r i : Nat} (hr : r < 4) (hi : i < q)
    (hd : (¬ lk (17 * r + i) ≤ nI q → kp2 (17 * r + i) = -9) ∧ (lk (17 * r + i) ≤ nI q → kp2 (17 * r + i) = kp (17 * r + i) ∧ lk2 (17 * r + i) = lk (17 * r + i))) :
    kp2 (17 * r + i) = -9 ∨ ∃ o w, xl_V tk nx ln c' r i o w ∧ kp2 (17 * r + i) = xl_en o ∧ lk2 (17 * r + i) = nI w := by
  by_cases z : lk (17 * r + i) ≤ nI q
  · obtain ⟨e1, e2⟩ := hd.2 z
    rcases hM r i hr (by omega) with hk | ⟨o, w, hv, hk, hw⟩
    · exact Or.inl (by rw [e1]; exact hk)
    · have hv' := hv
      have hwN : w ≤ N + 1 := by
        rcases hv with ⟨_, _, h3⟩ | ⟨g1, g2, n, k, p, h3⟩
        · omega
        · have hb := (pg_bd hG hN n (12 * r) i (pg_C_r hG hr g1).1 (by omega)).1
          rw [h3] at hb
          exact (hb g2).2.1
      rw [hw] at z
      have z' : w ≤ q := (nI_leI (by omega) (by omega)).mp z
      obtain ⟨o', w', a1, a2, a3, a4, a5, a6, a7, a8⟩ := xl_V_w (c' := c') (i' := i) hG hN hr (by omega) hv' (fun x hx => h1 _ (by omega))
      have eo : o' = o := by
        by_cases y : o = 1
        · have := a2 y; omega
        · have := a3 (by omega); omega
      have ew : w' = w := by omega
      subst eo ew
      exact Or.inr ⟨o', w', a1, by rw [e1]; exact hk, by rw [e2]; exact hw⟩
  · exact Or.inl (hd.1 z)
theorem xe_ins (hG : pg_G tk nx ln) (hN : ∀ x, N ≤ x → c x = 0) (hN16 : N < 16) (hM : xl_M tk nx ln c N kp lk) (hq : q ≤ N) (h1 : ∀ x, x < q → c' x = c x) (h2 : ∀ x, q ≤ x → c' (x + 1) = c x)
    (hd : ∀ r i, r < 4 → i ≤ N + 1 → (i < q → (¬ lk (17 * r + i) ≤ nI q → kp2 (17 * r + i) = -9) ∧ (lk (17 * r + i) ≤ nI q → kp2 (17 * r + i) = kp (17 * r + i) ∧ lk2 (17 * r + i) = lk (17 * r + i))) ∧ (i = q → kp2 (17 * r + i) = -9) ∧ (∀ j, i = j + 1 → q ≤ j → kp2 (17 * r + i) = xe_sh 1 (kp (17 * r + j)) ∧ lk2 (17 * r + i) = (lk (17 * r + j) + 1).toInt8.toInt32)) :
    xl_M tk nx ln c' (N + 1) kp2 lk2 := by
  intro r i hr hi
  obtain ⟨d1, d2, d3⟩ := hd r i hr hi
  by_cases z : i < q
  · exact xe_low hG hN (by omega) hM hq h1 hr z (d1 z)
  · by_cases y : i = q
    · exact Or.inl (d2 y)
    · obtain ⟨j, rfl⟩ : ∃ j, i = j + 1 := ⟨i - 1, by omega⟩
      obtain ⟨e1, e2⟩ := d3 j rfl (by omega)
      rcases hM r j hr (by omega) with hk | ⟨o, w, hv, hk, hw⟩
      · refine Or.inl ?_
        rw [e1, hk]; decide
      · obtain ⟨o', w', a1, a2, a3, a4, a5, a6, a7, a8⟩ := xl_V_w (c' := c') (i' := j + 1) hG hN hr (by omega) hv (fun x hx => by rw [show j + 1 + x = (j + x) + 1 by omega]; exact h2 _ (by omega))
        refine Or.inr ⟨o', w', a1, ?_, ?_⟩
        · rw [e1, hk]
          by_cases w1 : o = 1
          · rw [w1, a2 w1]; decide
          · have b1 := a7 (by omega)
            have b2 := a3 (by omega)
            obtain ⟨t, rfl⟩ : ∃ t, o = t + 2 := ⟨o - 2, by omega⟩
            obtain rfl : o' = t + 1 + 2 := by omega
            show xe_sh 1 (nI t) = nI (t + 1)
            unfold xe_sh
            rw [if_neg (nI_pos (by omega)), nI_1]
        · rw [e2, hw, xe_b1 (by omega)]
          exact congrArg nI (by omega)
theorem xe_era (hG : pg_G tk nx ln) (hN : ∀ x, N ≤ x → c x = 0) (hN16 : N ≤ 16) (hM : xl_M tk nx ln c N kp lk) (hq : q < N) (h1 : ∀ x, x < q → c' x = c x) (h2 : ∀ x, q ≤ x → c' x = c (x + 1))
    (hd : ∀ r i, r < 4 → i ≤ N - 1 → (i < q → (¬ lk (17 * r + i) ≤ nI q → kp2 (17 * r + i) = -9) ∧ (lk (17 * r + i) ≤ nI q → kp2 (17 * r + i) = kp (17 * r + i) ∧ lk2 (17 * r + i) = lk (17 * r + i))) ∧ (q ≤ i → kp2 (17 * r + i) = xe_sh (-1) (kp (17 * r + (i + 1))) ∧ lk2 (17 * r + i) = (lk (17 * r + (i + 1)) + (-1)).toInt8.toInt32)) :
    xl_M tk nx ln c' (N - 1) kp2 lk2 := by
  intro r i hr hi
  obtain ⟨d1, d2⟩ := hd r i hr hi
  by_cases z : i < q
  · exact xe_low hG hN (by omega) hM (by omega) h1 hr z (d1 z)
  · obtain ⟨e1, e2⟩ := d2 (by omega)
    rcases hM r (i + 1) hr (by omega) with hk | ⟨o, w, hv, hk, hw⟩
    · refine Or.inl ?_
      rw [e1, hk]; decide
    · obtain ⟨o', w', a1, a2, a3, a4, a5, a6, a7, a8⟩ := xl_V_w (c' := c') (i' := i) hG hN hr (by omega) hv (fun x hx => by rw [show i + 1 + x = (i + x) + 1 by omega]; exact h2 _ (by omega))
      refine Or.inr ⟨o', w', a1, ?_, ?_⟩
      · rw [e1, hk]
        by_cases w1 : o = 1
        · rw [w1, a2 w1]; decide
        · have b1 := a7 (by omega)
          have b2 := a3 (by omega)
          obtain ⟨t, rfl⟩ : ∃ t, o' = t + 2 := ⟨o' - 2, by omega⟩
          obtain rfl : o = t + 1 + 2 := by omega
          show xe_sh (-1) (nI (t + 1)) = nI t
          unfold xe_sh
          rw [if_neg (nI_pos (by omega)), pk_m1]
      · obtain ⟨v, rfl⟩ : ∃ v, w = v + 1 := ⟨w - 1, by omega⟩
        rw [e2, hw, xe_bm (by omega)]
        exact congrArg nI (by omega)
theorem xe_chg (hG : pg_G tk nx ln) (hN : ∀ x, N ≤ x → c x = 0) (hN16 : N ≤ 16) (hM : xl_M tk nx ln c N kp lk) (hq : q < N) (h1 : ∀ x, x ≠ q → c' x = c x)
    (hd : ∀ r i, r < 4 → i ≤ N → (i < q → (¬ lk (17 * r + i) ≤ nI q → kp2 (17 * r + i) = -9) ∧ (lk (17 * r + i) ≤ nI q → kp2 (17 * r + i) = kp (17 * r + i))) ∧ (i = q → kp2 (17 * r + i) = -9) ∧ (q < i → kp2 (17 * r + i) = kp (17 * r + i))) :
    xl_M tk nx ln c' N kp2 lk := by
  intro r i hr hi
  obtain ⟨d1, d2, d3⟩ := hd r i hr hi
  by_cases z : i < q
  · exact xe_low hG hN (by omega) hM (by omega) (fun x hx => h1 x (by omega)) hr z ⟨(d1 z).1, fun y => ⟨(d1 z).2 y, rfl⟩⟩
  · by_cases y : i = q
    · exact Or.inl (d2 y)
    · have e1 := d3 (by omega)
      rcases hM r i hr hi with hk | ⟨o, w, hv, hk, hw⟩
      · exact Or.inl (by rw [e1]; exact hk)
      · obtain ⟨o', w', a1, a2, a3, a4, a5, a6, a7, a8⟩ := xl_V_w (c' := c') (i' := i) hG hN hr hi hv (fun x hx => h1 _ (by omega))
        have eo : o' = o := by
          by_cases y : o = 1
          · have := a2 y; omega
          · have := a3 (by omega); omega
        have ew : w' = w := by omega
        subst eo ew
        exact Or.inr ⟨o', w', a1, by rw [e1]; exact hk, hw⟩
/-- what an entry holds -/
theorem xe_ent (hG : pg_G tk nx ln) (hN : ∀ x, N ≤ x → c x = 0) (hN16 : N ≤ 16) (hM : xl_M tk nx ln c N kp lk) {r i : Nat} (hr : r < 4) (hi : i ≤ N) : kp (17 * r + i) = -9 ∨ kp (17 * r + i) = -2 ∨ ∃ j, i ≤ j ∧ j ≤ 16 ∧ kp (17 * r + i) = nI j := by
  rcases hM r i hr hi with hk | ⟨o, w, hv, hk, hw⟩
  · exact Or.inl hk
  · rcases hv with ⟨_, h2, _⟩ | ⟨g1, g2, n, k, p, h3⟩
    · subst h2
      exact Or.inr (Or.inl hk)
    · have hb := (pg_bd hG hN n (12 * r) i (pg_C_r hG hr g1).1 hi).1
      rw [h3] at hb
      have hb1 := hb g2
      simp only at hb1
      by_cases z : o = 1
      · subst z; exact Or.inr (Or.inl hk)
      · have := hb1.2.2 (by omega)
        obtain ⟨j, rfl⟩ : ∃ j, o = j + 2 := ⟨o - 2, by omega⟩
        exact Or.inr (Or.inr ⟨j, by omega, by omega, hk⟩)
end
theorem xe_n1 {v : Int32} (h : v = -9 ∨ v = -2 ∨ ∃ j, j ≤ 16 ∧ v = nI j) : vp_nar .byte (xe_sh 1 v).toInt8.toInt32 = xe_sh 1 v := by
  rcases h with rfl | rfl | ⟨j, hj, rfl⟩
  · rw [pk_vb]; decide
  · rw [pk_vb]; decide
  · unfold xe_sh
    rw [if_neg (nI_pos (by omega)), nI_1]
    exact xb_b (by omega)
theorem xe_nm {v : Int32} (h : v = -9 ∨ v = -2 ∨ ∃ j, j ≤ 16 ∧ v = nI (j + 1)) : vp_nar .byte (xe_sh (-1) v).toInt8.toInt32 = xe_sh (-1) v := by
  rcases h with rfl | rfl | ⟨j, hj, rfl⟩
  · rw [pk_vb]; decide
  · rw [pk_vb]; decide
  · unfold xe_sh
    rw [if_neg (nI_pos (by omega)), pk_m1]
    exact xb_b (by omega)
section
variable {Q : Int32 → SX → Prop} {f_pendingCount f_length f_sp f_pc f_at f_far f_silence f_depth f_count f_treeNodes f_emitted f_listing f_stuck : Int32} {a_pending a_text a_operation a_operand a_opens a_stage a_hole a_kept a_looked a_active a_goOn a_where a_third a_fourth a_treeRule a_treeStart a_treeEnd a_treeDepth a_part a_partEnd : Nat → Int32} {N q l : Nat}
theorem xe_txt (x : Int32) : vp_nar .byte x = x.toInt8.toInt32 := vp_nar_byte x
theorem xp_insert (hN : N < 16) (hq : q ≤ N) (hl : 97 ≤ l ∧ l ≤ 122) (htx : ∀ x, x < N → ∃ t, t < 128 ∧ a_text x = nI t) (hE : ∀ r i, r < 4 → i ≤ N → a_kept (17 * r + i) = -9 ∨ a_kept (17 * r + i) = -2 ∨ ∃ j, j ≤ 16 ∧ a_kept (17 * r + i) = nI j)
    (K : ∀ text' kp2 lk2 : Nat → Int32, (∀ x, x < q → text' x = a_text x) → text' q = nI l → (∀ x, q ≤ x → x < N → text' (x + 1) = a_text x) →
      (∀ r i, r < 4 → i ≤ N + 1 → (i < q → (¬ a_looked (17 * r + i) ≤ nI q → kp2 (17 * r + i) = -9) ∧ (a_looked (17 * r + i) ≤ nI q → kp2 (17 * r + i) = a_kept (17 * r + i) ∧ lk2 (17 * r + i) = a_looked (17 * r + i))) ∧ (i = q → kp2 (17 * r + i) = -9) ∧ (∀ j, i = j + 1 → q ≤ j → kp2 (17 * r + i) = xe_sh 1 (a_kept (17 * r + j)) ∧ lk2 (17 * r + i) = (a_looked (17 * r + j) + 1).toInt8.toInt32)) →
      Q (nI (N + 1)) (f_pendingCount, nI (N + 1), f_sp, f_pc, f_at, f_far, f_silence, f_depth, f_count, f_treeNodes, f_emitted, f_listing, f_stuck, a_pending, text', a_operation, a_operand, a_opens, a_stage, a_hole, kp2, lk2, a_active, a_goOn, a_where, a_third, a_fourth, a_treeRule, a_treeStart, a_treeEnd, a_treeDepth, a_part, a_partEnd)) : wpX_insert Q (f_pendingCount, nI N, f_sp, f_pc, f_at, f_far, f_silence, f_depth, f_count, f_treeNodes, f_emitted, f_listing, f_stuck, a_pending, a_text, a_operation, a_operand, a_opens, a_stage, a_hole, a_kept, a_looked, a_active, a_goOn, a_where, a_third, a_fourth, a_treeRule, a_treeStart, a_treeEnd, a_treeDepth, a_part, a_partEnd) (nI q) (nI l) := by
  have loop : ∀ (d j : Nat) (tx kp lk : Nat → Int32), j = q + d → j ≤ N + 1 → (∀ x, x ≤ j → x ≤ N → tx x = a_text x) → (∀ x, j ≤ x → x < N → tx (x + 1) = a_text x) →
      (∀ r i, r < 4 → i ≤ N + 1 → (i ≤ j → kp (17 * r + i) = a_kept (17 * r + i) ∧ lk (17 * r + i) = a_looked (17 * r + i)) ∧ (∀ i', i = i' + 1 → j ≤ i' → kp (17 * r + i) = xe_sh 1 (a_kept (17 * r + i')) ∧ lk (17 * r + i) = (a_looked (17 * r + i') + 1).toInt8.toInt32)) →
      wX_insert_35 Q (nI q) (nI l) (d + 1) (nI j + (-1)) f_pendingCount (nI N) f_sp f_pc f_at f_far f_silence f_depth f_count f_treeNodes f_emitted f_listing f_stuck a_pending tx a_operation a_operand a_opens a_stage a_hole kp lk a_active a_goOn a_where a_third a_fourth a_treeRule a_treeStart a_treeEnd a_treeDepth a_part a_partEnd := by
    intro d
    induction d with
    | zero =>
      intro j tx kp lk hj hjN h1 h2 h3
      obtain rfl : j = q := by omega
      refine br_t ?_ (And.intro (xb_in (by omega) (by omega)) (nm_r (e' := upd tx j (nI l)) (by rw [xb_c (by omega), xb_b (by omega)]) (nm_r (nI_1 N) ?_)))
      · cases j with
        | zero => decide
        | succ j => rw [pk_m1]; exact nI_lt (by omega) (by omega)
      · refine xp_drop (by omega) (fun kp' g1 => xp_dropL (by omega) (fun kp2 g2 => K (upd tx j (nI l)) kp2 lk (fun x hx => by rw [pk_un (by omega)]; exact h1 x (by omega) (by omega)) pk_us (fun x hx hx' => by rw [pk_un (by omega)]; exact h2 x hx hx') (fun r i hr hi => ?_)))
        obtain ⟨a1, a2⟩ := h3 r i hr hi
        have b1 := g1 r i hr (by omega)
        obtain ⟨c1, c2⟩ := g2 r i hr (by omega)
        refine ⟨fun y => ?_, fun y => ?_, fun i' y y' => ?_⟩
        · rw [if_neg (by omega)] at b1
          rw [(a1 (by omega)).2] at c1 c2
          refine ⟨fun z => c1 ⟨y, z⟩, fun z => ⟨?_, (a1 (by omega)).2⟩⟩
          rw [c2 (fun w => w.2 z), b1, (a1 (by omega)).1]
        · rw [if_pos y] at b1
          rw [c2 (fun w => by omega), b1]
        · rw [if_neg (by omega)] at b1
          have := a2 i' y y'
          rw [c2 (fun w => by omega), b1]
          exact this
    | succ d ih =>
      intro j tx kp lk hj hjN h1 h2 h3
      obtain ⟨i0, rfl⟩ : ∃ i0, j = i0 + 1 := ⟨j - 1, by omega⟩
      have htx0 : i0 < N → tx i0 = a_text i0 := fun y => h1 i0 (by omega) (by omega)
      rw [pk_m1]
      have e1 : nI i0 + 1 = nI (i0 + 1) := nI_1 i0
      refine br_f (nI_nlt (by omega) (by omega)) (And.intro (xb_in (by omega) (by omega)) (And.intro (by rw [e1]; exact xb_in (by omega) (by omega)) (nm_r (e' := upd tx (i0 + 1) (tx i0).toInt8.toInt32) (by rw [e1, xb_c (by omega), xb_c (by omega), vp_nar_byte]) ?_)))
      have hs : ∀ r, r < 4 → kp (17 * r + i0) = a_kept (17 * r + i0) ∧ lk (17 * r + i0) = a_looked (17 * r + i0) := fun r hr => (h3 r i0 hr (by omega)).1 (by omega)
      refine xp_shift (fr := i0) (to := i0 + 1) (b := 1) (by omega) (by omega) (by omega) (fun a => by rw [nI_1]; exact congrArg nI (by omega)) (fun r hr => by rw [(hs r hr).1]; exact xe_n1 (hE r i0 hr (by omega))) (fun kp' lk' g => nm_e (ih i0 _ kp' lk' (by omega) (by omega) (fun x hx hx' => ?_) (fun x hx hx' => ?_) (fun r i hr hi => ?_)))
      · rw [pk_un (by omega)]; exact h1 x (by omega) hx'
      · by_cases z : x = i0
        · subst z
          rw [pk_us, htx0 hx']
          obtain ⟨t, ht, et⟩ := htx x hx'
          rw [et]
          exact lg_i2b_small (by rw [nI_toInt (by omega)]; omega) (by rw [nI_toInt (by omega)]; omega)
        · rw [pk_un (by omega)]; exact h2 x (by omega) hx'
      · obtain ⟨a1, a2⟩ := h3 r i hr hi
        obtain ⟨b1, b2⟩ := g r i hr (by omega)
        refine ⟨fun y => ?_, fun i' y y' => ?_⟩
        · rw [(b2 (by omega)).1, (b2 (by omega)).2]
          exact a1 (by omega)
        · by_cases z : i' = i0
          · subst z
            rw [(b1 y).1, (b1 y).2, (hs r hr).1, (hs r hr).2]
            exact ⟨rfl, rfl⟩
          · rw [(b2 (by omega)).1, (b2 (by omega)).2]
            exact a2 i' y (by omega)
  refine br_f (nI_pos (by omega)) (br_f (nI_nlt hq (by omega)) (xp_isL (by omega) (fun z => ?_) (fun _ => br_f (by decide) (pk_eq N 16 (fun y => absurd y (by omega)) (fun _ => ⟨N + 1 - q + 1, ?_⟩)))))
  · unfold sv_lt at z
    exact absurd (decide_eq_true hl) (by rw [z]; simp)
  · have := loop (N + 1 - q) (N + 1) a_text a_kept a_looked (by omega) (Nat.le_refl _) (fun x _ _ => rfl) (fun x h1 h2 => absurd h2 (by omega)) (fun r i hr hi => ⟨fun _ => ⟨rfl, rfl⟩, fun i' y y' => absurd hi (by omega)⟩)
    rw [pk_m1] at this
    exact this
theorem xp_erase (hN : N ≤ 16) (hq : q < N) (htx : ∀ x, x < N → ∃ t, t < 128 ∧ a_text x = nI t) (hE : ∀ r i, r < 4 → i ≤ N → q < i → a_kept (17 * r + i) = -9 ∨ a_kept (17 * r + i) = -2 ∨ ∃ j, j ≤ 16 ∧ a_kept (17 * r + i) = nI (j + 1))
    (K : ∀ text' kp2 lk2 : Nat → Int32, (∀ x, x < q → text' x = a_text x) → (∀ x, q ≤ x → x + 1 < N → text' x = a_text (x + 1)) →
      (∀ r i, r < 4 → i ≤ N - 1 → (i < q → (¬ a_looked (17 * r + i) ≤ nI q → kp2 (17 * r + i) = -9) ∧ (a_looked (17 * r + i) ≤ nI q → kp2 (17 * r + i) = a_kept (17 * r + i) ∧ lk2 (17 * r + i) = a_looked (17 * r + i))) ∧ (q ≤ i → kp2 (17 * r + i) = xe_sh (-1) (a_kept (17 * r + (i + 1))) ∧ lk2 (17 * r + i) = (a_looked (17 * r + (i + 1)) + (-1)).toInt8.toInt32)) →
      Q (nI (N - 1)) (f_pendingCount, nI (N - 1), f_sp, f_pc, f_at, f_far, f_silence, f_depth, f_count, f_treeNodes, f_emitted, f_listing, f_stuck, a_pending, text', a_operation, a_operand, a_opens, a_stage, a_hole, kp2, lk2, a_active, a_goOn, a_where, a_third, a_fourth, a_treeRule, a_treeStart, a_treeEnd, a_treeDepth, a_part, a_partEnd)) : wpX_erase Q (f_pendingCount, nI N, f_sp, f_pc, f_at, f_far, f_silence, f_depth, f_count, f_treeNodes, f_emitted, f_listing, f_stuck, a_pending, a_text, a_operation, a_operand, a_opens, a_stage, a_hole, a_kept, a_looked, a_active, a_goOn, a_where, a_third, a_fourth, a_treeRule, a_treeStart, a_treeEnd, a_treeDepth, a_part, a_partEnd) (nI q) := by
  have loop : ∀ (d j : Nat) (tx kp lk : Nat → Int32), j + d = N + 1 → q + 1 ≤ j → (∀ x, x < q → tx x = a_text x) → (∀ x, j ≤ x + 1 → x < N → tx x = a_text x) → (∀ x, q ≤ x → x + 1 < j → x + 1 < N → tx x = a_text (x + 1)) →
      (∀ r i, r < 4 → i ≤ N → ((i < q ∨ j ≤ i + 1) → kp (17 * r + i) = a_kept (17 * r + i) ∧ lk (17 * r + i) = a_looked (17 * r + i)) ∧ (q ≤ i → i + 1 < j → kp (17 * r + i) = xe_sh (-1) (a_kept (17 * r + (i + 1))) ∧ lk (17 * r + i) = (a_looked (17 * r + (i + 1)) + (-1)).toInt8.toInt32)) →
      wX_erase_18 Q (nI q) (d + 1) (nI j) f_pendingCount (nI N) f_sp f_pc f_at f_far f_silence f_depth f_count f_treeNodes f_emitted f_listing f_stuck a_pending tx a_operation a_operand a_opens a_stage a_hole kp lk a_active a_goOn a_where a_third a_fourth a_treeRule a_treeStart a_treeEnd a_treeDepth a_part a_partEnd := by
    intro d
    induction d with
    | zero =>
      intro j tx kp lk hj hjq h1 h1' h2 h3
      obtain rfl : j = N + 1 := by omega
      refine br_t (nI_lt (by omega) (by omega)) (nm_r (e' := nI (N - 1)) (pk_sub (b := 1) (by omega)) (xp_dropL (by omega) (fun kp2 g2 => K tx kp2 lk h1 (fun x hx hx' => h2 x hx (by omega) hx') (fun r i hr hi => ?_))))
      obtain ⟨a1, a2⟩ := h3 r i hr (by omega)
      obtain ⟨c1, c2⟩ := g2 r i hr (by omega)
      refine ⟨fun y => ?_, fun y => ?_⟩
      · rw [(a1 (Or.inl y)).2] at c1 c2
        refine ⟨fun z => c1 ⟨y, z⟩, fun z => ⟨?_, (a1 (Or.inl y)).2⟩⟩
        rw [c2 (fun w => w.2 z), (a1 (Or.inl y)).1]
      · rw [c2 (fun w => by omega)]
        exact a2 y (by omega)
    | succ d ih =>
      intro j tx kp lk hj hjq h1 h1' h2 h3
      obtain ⟨i0, rfl⟩ : ∃ i0, j = i0 + 1 := ⟨j - 1, by omega⟩
      have e1 : nI (i0 + 1) - 1 = nI i0 := nI_pred i0
      refine br_f (nI_nlt (by omega) (by omega)) (And.intro (xb_in (by omega) (by omega)) (And.intro (by rw [e1]; exact xb_in (by omega) (by omega)) (nm_r (e' := upd tx i0 (tx (i0 + 1)).toInt8.toInt32) (by rw [e1, xb_c (by omega), xb_c (by omega), vp_nar_byte]) ?_)))
      have hs : ∀ r, r < 4 → kp (17 * r + (i0 + 1)) = a_kept (17 * r + (i0 + 1)) ∧ lk (17 * r + (i0 + 1)) = a_looked (17 * r + (i0 + 1)) := fun r hr => (h3 r (i0 + 1) hr (by omega)).1 (Or.inr (by omega))
      refine xp_shift (fr := i0 + 1) (to := i0) (b := -1) (by omega) (by omega) (by omega) (fun a => by rw [show a + (i0 + 1) = (a + i0) + 1 by omega, pk_m1]) (fun r hr => by rw [(hs r hr).1]; exact xe_nm (hE r (i0 + 1) hr (by omega) (by omega))) (fun kp' lk' g => nm_r (nI_1 (i0 + 1)) (ih (i0 + 1 + 1) _ kp' lk' (by omega) (by omega) (fun x hx => ?_) (fun x hx hx' => ?_) (fun x hx hx' hx'' => ?_) (fun r i hr hi => ?_)))
      · rw [pk_un (by omega)]; exact h1 x hx
      · rw [pk_un (by omega)]; exact h1' x (by omega) hx'
      · by_cases z : x = i0
        · subst z
          rw [pk_us, h1' (x + 1) (by omega) hx'']
          obtain ⟨t, ht, et⟩ := htx (x + 1) hx''
          rw [et]
          exact lg_i2b_small (by rw [nI_toInt (by omega)]; omega) (by rw [nI_toInt (by omega)]; omega)
        · rw [pk_un z]; exact h2 x hx (by omega) hx''
      · obtain ⟨a1, a2⟩ := h3 r i hr hi
        obtain ⟨b1, b2⟩ := g r i hr (by omega)
        refine ⟨fun y => ?_, fun y y' => ?_⟩
        · rw [(b2 (by omega)).1, (b2 (by omega)).2]
          exact a1 (by omega)
        · by_cases z : i = i0
          · rw [(b1 z).1, (b1 z).2, (hs r hr).1, (hs r hr).2, z]
            exact ⟨rfl, rfl⟩
          · rw [(b2 z).1, (b2 z).2]
            exact a2 y (by omega)
  refine br_f (nI_pos (by omega)) (br_t (nI_lt hq (by omega)) (nm_r (nI_1 q) ⟨N - q + 1, ?_⟩))
  exact loop (N - q) (q + 1) a_text a_kept a_looked (by omega) (Nat.le_refl _) (fun x _ => rfl) (fun x _ _ => rfl) (fun x h1 h2 => absurd h2 (by omega)) (fun r i hr hi => ⟨fun _ => ⟨rfl, rfl⟩, fun y y' => absurd y' (by omega)⟩)
theorem xp_change (hN : N ≤ 16) (hq : q < N) (hl : 97 ≤ l ∧ l ≤ 122)
    (K : ∀ kp2 : Nat → Int32,
      (∀ r i, r < 4 → i ≤ N → (i < q → (¬ a_looked (17 * r + i) ≤ nI q → kp2 (17 * r + i) = -9) ∧ (a_looked (17 * r + i) ≤ nI q → kp2 (17 * r + i) = a_kept (17 * r + i))) ∧ (i = q → kp2 (17 * r + i) = -9) ∧ (q < i → kp2 (17 * r + i) = a_kept (17 * r + i))) →
      Q (a_text q) (f_pendingCount, nI N, f_sp, f_pc, f_at, f_far, f_silence, f_depth, f_count, f_treeNodes, f_emitted, f_listing, f_stuck, a_pending, upd a_text q (nI l), a_operation, a_operand, a_opens, a_stage, a_hole, kp2, a_looked, a_active, a_goOn, a_where, a_third, a_fourth, a_treeRule, a_treeStart, a_treeEnd, a_treeDepth, a_part, a_partEnd)) : wpX_change Q (f_pendingCount, nI N, f_sp, f_pc, f_at, f_far, f_silence, f_depth, f_count, f_treeNodes, f_emitted, f_listing, f_stuck, a_pending, a_text, a_operation, a_operand, a_opens, a_stage, a_hole, a_kept, a_looked, a_active, a_goOn, a_where, a_third, a_fourth, a_treeRule, a_treeStart, a_treeEnd, a_treeDepth, a_part, a_partEnd) (nI q) (nI l) := by
  refine br_f (nI_pos (by omega)) (br_f (nI_ge hq (by omega)) (xp_isL (by omega) (fun z => ?_) (fun _ => br_f (by decide) (And.intro (xb_in (by omega) (by omega)) (nm_r (e' := a_text q) (by rw [xb_c (by omega)]) (And.intro (xb_in (by omega) (by omega)) (nm_r (e' := upd a_text q (nI l)) (by rw [xb_c (by omega), xb_b (by omega)]) ?_)))))))
  · unfold sv_lt at z
    exact absurd (decide_eq_true hl) (by rw [z]; simp)
  · refine xp_drop (by omega) (fun kp' g1 => xp_dropL (by omega) (fun kp2 g2 => K kp2 (fun r i hr hi => ?_)))
    have b1 := g1 r i hr (by omega)
    obtain ⟨c1, c2⟩ := g2 r i hr (by omega)
    refine ⟨fun y => ⟨fun z => c1 ⟨y, z⟩, fun z => ?_⟩, fun y => ?_, fun y => ?_⟩
    · rw [if_neg (by omega)] at b1
      rw [c2 (fun w => w.2 z), b1]
    · rw [if_pos y] at b1
      rw [c2 (fun w => by omega), b1]
    · rw [if_neg (by omega)] at b1
      rw [c2 (fun w => by omega), b1]
end
end
section
/-! put: tokens are added on both sides alike; the reference's edits -/
def pu_z (v : Int32) : Nat := if v = 0 then 0 else 1
def pu_O (v : Int32) : Prop := ∃ t, v = nI t ∧ t < 128 ∧ (t = 0 ∨ pg_tv t)
theorem pu_iT {post : Int32 → Prop} {v : Int32} (k1 : pu_O v → post 1) (k0 : ¬ pu_O v → post 0) : wpX_isToken post v := by
  have big : ∀ (post : Int32 → Prop) {v : Int32}, v < 0 → post 0 → wpX_isLetter post v := fun post v h k => br_t (Int32.lt_trans h (by decide)) k
  by_cases z : v < 0
  · have hk := k0 (by
      rintro ⟨t, rfl, ht, _⟩
      exact absurd z (nI_pos (by omega)))
    have l : ∀ w : Int32, (0 : Int32) < w → v < w := fun w hw => Int32.lt_trans z hw
    refine br_f (fun e => by rw [e] at z; exact absurd z (by decide)) (big _ z (br_t rfl (br_t (l 1 (by decide)) ?_)))
    exact br_t (l 10 (by decide)) (br_t (l 20 (by decide)) hk)
  · obtain ⟨t, ht, rfl⟩ := nI_of z
    have y1 : (t < 128 ∧ (t = 0 ∨ pg_tv t)) → post 1 := fun h => k1 ⟨t, rfl, h.1, h.2⟩
    have y0 : ¬ (t < 128 ∧ (t = 0 ∨ pg_tv t)) → post 0 := fun h => k0 (by
      rintro ⟨t', e, h1, h2⟩
      rw [nI_eq ht (by omega)] at e
      subst e
      exact h ⟨h1, h2⟩)
    unfold pg_tv at y1 y0
    have f33 : (3 < t ∧ ¬ (10 ≤ t ∧ t ≤ 16) ∧ ¬ (97 ≤ t ∧ t ≤ 122)) → wX_isToken_33 post (nI t) := fun h => pk_lt t 20 (fun q => y0 (by omega)) (fun q => pk_lt 23 t (fun q' => y0 (by omega)) (fun q' => y1 (by omega)))
    have f21 : (3 < t ∧ ¬ (97 ≤ t ∧ t ≤ 122)) → wX_isToken_21 post (nI t) := fun h => pk_lt t 10 (fun q => f33 (by omega)) (fun q => pk_le t 16 (fun q' => y1 (by omega)) (fun q' => f33 (by omega)))
    refine pk_eq t 0 (fun q => y1 (by omega)) (fun q => ?_)
    have rest : ¬ (97 ≤ t ∧ t ≤ 122) → ((nI t < 1 → wX_isToken_21 post (nI t)) ∧ (¬ nI t < 1 → ((nI t ≤ 3 → post 1) ∧ (¬ nI t ≤ 3 → wX_isToken_21 post (nI t))))) := fun h => pk_lt t 1 (fun q' => absurd q' (by omega)) (fun q' => pk_le t 3 (fun q2 => y1 (by omega)) (fun q2 => f21 (by omega)))
    exact pk_lt t 97 (fun q' => br_t rfl (rest (by omega))) (fun q' => pk_lt 122 t (fun q2 => br_t rfl (rest (by omega))) (fun q2 => br_f (by decide) (y1 (by omega))))
theorem pu_iV {post : Int32 → Prop} {v : Int32} (k1 : pu_O v → post 1) (k0 : ¬ pu_O v → post 0) : wpY_valid post v := by
  by_cases z : v < 0
  · have hk := k0 (by
      rintro ⟨t, rfl, ht, _⟩
      exact absurd z (nI_pos (by omega)))
    have l : ∀ w : Int32, (0 : Int32) < w → v < w := fun w hw => Int32.lt_trans z hw
    exact br_t z (br_t (l 10 (by decide)) (br_t (l 20 (by decide)) (br_t (l 97 (by decide)) (br_t rfl hk))))
  · obtain ⟨t, ht, rfl⟩ := nI_of z
    have y1 : (t < 128 ∧ (t = 0 ∨ pg_tv t)) → post 1 := fun h => k1 ⟨t, rfl, h.1, h.2⟩
    have y0 : ¬ (t < 128 ∧ (t = 0 ∨ pg_tv t)) → post 0 := fun h => k0 (by
      rintro ⟨t', e, h1, h2⟩
      rw [nI_eq ht (by omega)] at e
      subst e
      exact h ⟨h1, h2⟩)
    unfold pg_tv at y1 y0
    have f33 : (3 < t ∧ ¬ (10 ≤ t ∧ t ≤ 16) ∧ ¬ (20 ≤ t ∧ t ≤ 23)) → wY_valid_33 post (nI t) := fun h => pk_lt t 97 (fun q => br_t rfl (y0 (by omega))) (fun q => pk_lt 122 t (fun q' => br_t rfl (y0 (by omega))) (fun q' => br_f (by decide) (y1 (by omega))))
    have f21 : (3 < t ∧ ¬ (10 ≤ t ∧ t ≤ 16)) → wY_valid_21 post (nI t) := fun h => pk_lt t 20 (fun q => f33 (by omega)) (fun q => pk_le t 23 (fun q' => y1 (by omega)) (fun q' => f33 (by omega)))
    have f9 : 3 < t → wY_valid_9 post (nI t) := fun h => pk_lt t 10 (fun q => f21 (by omega)) (fun q => pk_le t 16 (fun q' => y1 (by omega)) (fun q' => f21 (by omega)))
    exact br_f z (pk_le t 3 (fun q => y1 (by omega)) (fun q => f9 q))
/-- a token is added -/
def pu_a (s : (Nat → Nat) × Nat) (t : Nat) : (Nat → Nat) × Nat := if t = 0 then s else ((fun k => if k = s.2 then t else s.1 k), s.2 + 1)
theorem pu_a_n (s : (Nat → Nat) × Nat) (t : Nat) : (pu_a s t).2 = s.2 + pu_z (nI t) ∨ 2 ^ 31 ≤ t := by
  by_cases h : 2 ^ 31 ≤ t
  · exact Or.inr h
  · refine Or.inl ?_
    unfold pu_a pu_z
    by_cases z : t = 0
    · subst z; rfl
    · rw [if_neg z, if_neg (nI_ne0 (by omega) (by omega))]
theorem pu_a_v {s : (Nat → Nat) × Nat} {t : Nat} (h : ∀ k, k < s.2 → pg_tv (s.1 k)) (ht : t = 0 ∨ pg_tv t) : ∀ k, k < (pu_a s t).2 → pg_tv ((pu_a s t).1 k) := by
  intro k hk
  unfold pu_a at hk ⊢
  by_cases z : t = 0
  · rw [if_pos z] at hk ⊢; exact h k hk
  · rw [if_neg z] at hk ⊢
    simp only at hk ⊢
    by_cases y : k = s.2
    · rw [if_pos y]
      rcases ht with q | q
      · exact absurd q z
      · exact q
    · rw [if_neg y]
      exact h k (by omega)
section
variable {P : SX → Prop} {Q : Int32 → SX → Prop} {f_pendingCount f_length f_sp f_pc f_at f_far f_silence f_depth f_count f_treeNodes f_emitted f_listing f_stuck : Int32} {a_pending a_text a_operation a_operand a_opens a_stage a_hole a_kept a_looked a_active a_goOn a_where a_third a_fourth a_treeRule a_treeStart a_treeEnd a_treeDepth a_part a_partEnd : Nat → Int32}
theorem pu_xa {s : (Nat → Nat) × Nat} {t : Nat} (ht : t < 128) (hs : (pu_a s t).2 ≤ 12) (h : ∀ k, k < s.2 → a_pending k = nI (s.1 k))
    (K : ∀ pend' : Nat → Int32, (∀ k, k < (pu_a s t).2 → pend' k = nI ((pu_a s t).1 k)) → P (nI (pu_a s t).2, f_length, f_sp, f_pc, f_at, f_far, f_silence, f_depth, f_count, f_treeNodes, f_emitted, f_listing, f_stuck, pend', a_text, a_operation, a_operand, a_opens, a_stage, a_hole, a_kept, a_looked, a_active, a_goOn, a_where, a_third, a_fourth, a_treeRule, a_treeStart, a_treeEnd, a_treeDepth, a_part, a_partEnd)) : wpX_add P (nI s.2, f_length, f_sp, f_pc, f_at, f_far, f_silence, f_depth, f_count, f_treeNodes, f_emitted, f_listing, f_stuck, a_pending, a_text, a_operation, a_operand, a_opens, a_stage, a_hole, a_kept, a_looked, a_active, a_goOn, a_where, a_third, a_fourth, a_treeRule, a_treeStart, a_treeEnd, a_treeDepth, a_part, a_partEnd) (nI t) := by
  unfold pu_a at K hs
  refine pk_eq t 0 (fun z => ?_) (fun z => ?_)
  · rw [if_pos z] at K
    exact K a_pending h
  · simp only [if_neg z] at K hs
    refine nm_r (nI_1 s.2) (And.intro (xb_in (by omega) (by omega)) (nm_r (e' := upd a_pending s.2 (nI t)) (by rw [xb_c (by omega), xb_b ht]) (K _ (fun k hk => ?_))))
    by_cases y : k = s.2
    · rw [if_pos y, y, pk_us]
    · rw [if_neg y, pk_un y]
      exact h k (by omega)
theorem pu_x {v1 v2 v3 v4 : Int32} (K : ∀ z0 z1 : Int32, z1 + z0 = nI (pu_z v1 + pu_z v2 + pu_z v3 + pu_z v4) → wX_put_39 Q v1 v2 v3 v4 z0 z1 f_pendingCount f_length f_sp f_pc f_at f_far f_silence f_depth f_count f_treeNodes f_emitted f_listing f_stuck a_pending a_text a_operation a_operand a_opens a_stage a_hole a_kept a_looked a_active a_goOn a_where a_third a_fourth a_treeRule a_treeStart a_treeEnd a_treeDepth a_part a_partEnd) : wpX_put Q (f_pendingCount, f_length, f_sp, f_pc, f_at, f_far, f_silence, f_depth, f_count, f_treeNodes, f_emitted, f_listing, f_stuck, a_pending, a_text, a_operation, a_operand, a_opens, a_stage, a_hole, a_kept, a_looked, a_active, a_goOn, a_where, a_third, a_fourth, a_treeRule, a_treeStart, a_treeEnd, a_treeDepth, a_part, a_partEnd) v1 v2 v3 v4 :=
  br_c (fun h1 => br_c (fun h2 => br_c (fun h3 => br_c (fun h4 => K _ _ (by unfold pu_z; rw [if_pos h1, if_pos h2, if_pos h3, if_pos h4]; decide)) (fun h4 => K _ _ (by unfold pu_z; rw [if_pos h1, if_pos h2, if_pos h3, if_neg h4]; decide))) (fun h3 => br_c (fun h4 => K _ _ (by unfold pu_z; rw [if_pos h1, if_pos h2, if_neg h3, if_pos h4]; decide)) (fun h4 => K _ _ (by unfold pu_z; rw [if_pos h1, if_pos h2, if_neg h3, if_neg h4]; decide)))) (fun h2 => br_c (fun h3 => br_c (fun h4 => K _ _ (by unfold pu_z; rw [if_pos h1, if_neg h2, if_pos h3, if_pos h4]; decide)) (fun h4 => K _ _ (by unfold pu_z; rw [if_pos h1, if_neg h2, if_pos h3, if_neg h4]; decide))) (fun h3 => br_c (fun h4 => K _ _ (by unfold pu_z; rw [if_pos h1, if_neg h2, if_neg h3, if_pos h4]; decide)) (fun h4 => K _ _ (by unfold pu_z; rw [if_pos h1, if_neg h2, if_neg h3, if_neg h4]; decide))))) (fun h1 => br_c (fun h2 => br_c (fun h3 => br_c (fun h4 => K _ _ (by unfold pu_z; rw [if_neg h1, if_pos h2, if_pos h3, if_pos h4]; decide)) (fun h4 => K _ _ (by unfold pu_z; rw [if_neg h1, if_pos h2, if_pos h3, if_neg h4]; decide))) (fun h3 => br_c (fun h4 => K _ _ (by unfold pu_z; rw [if_neg h1, if_pos h2, if_neg h3, if_pos h4]; decide)) (fun h4 => K _ _ (by unfold pu_z; rw [if_neg h1, if_pos h2, if_neg h3, if_neg h4]; decide)))) (fun h2 => br_c (fun h3 => br_c (fun h4 => K _ _ (by unfold pu_z; rw [if_neg h1, if_neg h2, if_pos h3, if_pos h4]; decide)) (fun h4 => K _ _ (by unfold pu_z; rw [if_neg h1, if_neg h2, if_pos h3, if_neg h4]; decide))) (fun h3 => br_c (fun h4 => K _ _ (by unfold pu_z; rw [if_neg h1, if_neg h2, if_neg h3, if_pos h4]; decide)) (fun h4 => K _ _ (by unfold pu_z; rw [if_neg h1, if_neg h2, if_neg h3, if_neg h4]; decide)))))
theorem pu_x39 {v1 v2 v3 v4 z0 z1 : Int32} {n m : Nat} (hz : z1 + z0 = nI m) (hn : n ≤ 12) (hm : m ≤ 4) (k0 : ¬ (pu_O v1 ∧ pu_O v2 ∧ pu_O v3 ∧ pu_O v4 ∧ n + m ≤ 12) → Q (-1) (nI n, f_length, f_sp, f_pc, f_at, f_far, f_silence, f_depth, f_count, f_treeNodes, f_emitted, f_listing, f_stuck, a_pending, a_text, a_operation, a_operand, a_opens, a_stage, a_hole, a_kept, a_looked, a_active, a_goOn, a_where, a_third, a_fourth, a_treeRule, a_treeStart, a_treeEnd, a_treeDepth, a_part, a_partEnd))
    (k1 : (pu_O v1 ∧ pu_O v2 ∧ pu_O v3 ∧ pu_O v4 ∧ n + m ≤ 12) → wpX_add (fun u => match u with | (f_pendingCount, f_length, f_sp, f_pc, f_at, f_far, f_silence, f_depth, f_count, f_treeNodes, f_emitted, f_listing, f_stuck, a_pending, a_text, a_operation, a_operand, a_opens, a_stage, a_hole, a_kept, a_looked, a_active, a_goOn, a_where, a_third, a_fourth, a_treeRule, a_treeStart, a_treeEnd, a_treeDepth, a_part, a_partEnd) => wpX_add (fun u => match u with | (f_pendingCount, f_length, f_sp, f_pc, f_at, f_far, f_silence, f_depth, f_count, f_treeNodes, f_emitted, f_listing, f_stuck, a_pending, a_text, a_operation, a_operand, a_opens, a_stage, a_hole, a_kept, a_looked, a_active, a_goOn, a_where, a_third, a_fourth, a_treeRule, a_treeStart, a_treeEnd, a_treeDepth, a_part, a_partEnd) => wpX_add (fun u => match u with | (f_pendingCount, f_length, f_sp, f_pc, f_at, f_far, f_silence, f_depth, f_count, f_treeNodes, f_emitted, f_listing, f_stuck, a_pending, a_text, a_operation, a_operand, a_opens, a_stage, a_hole, a_kept, a_looked, a_active, a_goOn, a_where, a_third, a_fourth, a_treeRule, a_treeStart, a_treeEnd, a_treeDepth, a_part, a_partEnd) => wpX_add (fun u => match u with | (f_pendingCount, f_length, f_sp, f_pc, f_at, f_far, f_silence, f_depth, f_count, f_treeNodes, f_emitted, f_listing, f_stuck, a_pending, a_text, a_operation, a_operand, a_opens, a_stage, a_hole, a_kept, a_looked, a_active, a_goOn, a_where, a_third, a_fourth, a_treeRule, a_treeStart, a_treeEnd, a_treeDepth, a_part, a_partEnd) => Q f_pendingCount (f_pendingCount, f_length, f_sp, f_pc, f_at, f_far, f_silence, f_depth, f_count, f_treeNodes, f_emitted, f_listing, f_stuck, a_pending, a_text, a_operation, a_operand, a_opens, a_stage, a_hole, a_kept, a_looked, a_active, a_goOn, a_where, a_third, a_fourth, a_treeRule, a_treeStart, a_treeEnd, a_treeDepth, a_part, a_partEnd)) (f_pendingCount, f_length, f_sp, f_pc, f_at, f_far, f_silence, f_depth, f_count, f_treeNodes, f_emitted, f_listing, f_stuck, a_pending, a_text, a_operation, a_operand, a_opens, a_stage, a_hole, a_kept, a_looked, a_active, a_goOn, a_where, a_third, a_fourth, a_treeRule, a_treeStart, a_treeEnd, a_treeDepth, a_part, a_partEnd) v4) (f_pendingCount, f_length, f_sp, f_pc, f_at, f_far, f_silence, f_depth, f_count, f_treeNodes, f_emitted, f_listing, f_stuck, a_pending, a_text, a_operation, a_operand, a_opens, a_stage, a_hole, a_kept, a_looked, a_active, a_goOn, a_where, a_third, a_fourth, a_treeRule, a_treeStart, a_treeEnd, a_treeDepth, a_part, a_partEnd) v3) (f_pendingCount, f_length, f_sp, f_pc, f_at, f_far, f_silence, f_depth, f_count, f_treeNodes, f_emitted, f_listing, f_stuck, a_pending, a_text, a_operation, a_operand, a_opens, a_stage, a_hole, a_kept, a_looked, a_active, a_goOn, a_where, a_third, a_fourth, a_treeRule, a_treeStart, a_treeEnd, a_treeDepth, a_part, a_partEnd) v2) (nI n, f_length, f_sp, f_pc, f_at, f_far, f_silence, f_depth, f_count, f_treeNodes, f_emitted, f_listing, f_stuck, a_pending, a_text, a_operation, a_operand, a_opens, a_stage, a_hole, a_kept, a_looked, a_active, a_goOn, a_where, a_third, a_fourth, a_treeRule, a_treeStart, a_treeEnd, a_treeDepth, a_part, a_partEnd) v1) : wX_put_39 Q v1 v2 v3 v4 z0 z1 (nI n) f_length f_sp f_pc f_at f_far f_silence f_depth f_count f_treeNodes f_emitted f_listing f_stuck a_pending a_text a_operation a_operand a_opens a_stage a_hole a_kept a_looked a_active a_goOn a_where a_third a_fourth a_treeRule a_treeStart a_treeEnd a_treeDepth a_part a_partEnd := by
  refine nm_r hz (pu_iT (fun o1 => br_f (by decide) (pu_iT (fun o2 => br_f (by decide) (pu_iT (fun o3 => br_f (by decide) (pu_iT (fun o4 => br_f (by decide) ?_) (fun q => br_t rfl (k0 (fun w => q w.2.2.2.1))))) (fun q => br_t rfl (k0 (fun w => q w.2.2.1))))) (fun q => br_t rfl (k0 (fun w => q w.2.1))))) (fun q => br_t rfl (k0 (fun w => q w.1))))
  exact pk_le (n + m) 12 (fun y => k1 ⟨o1, o2, o3, o4, y⟩) (fun y => k0 (fun w => by omega)) (nI_add n m)
end
section
variable {P : SY → Prop} {Q : Int32 → SY → Prop} {f_length f_tasks f_keptNodes : Int32} {a_tok a_len a_next a_text a_does a_again a_taskCell a_taskPlace a_taskDepth a_kept : Nat → Int32}
theorem pu_ya {s : (Nat → Nat) × Nat} {t : Nat} (ht : t < 128) (hs : (pu_a s t).2 ≤ 12) (hl : a_len 4 = nI s.2) (h : ∀ k, k < s.2 → a_tok (48 + k) = nI (s.1 k))
    (K : ∀ tok' len' : Nat → Int32, (∀ k, k < (pu_a s t).2 → tok' (48 + k) = nI ((pu_a s t).1 k)) → (∀ x, x < 48 → tok' x = a_tok x) → len' 4 = nI (pu_a s t).2 → (∀ x, x < 4 → len' x = a_len x) → P (f_length, f_tasks, f_keptNodes, tok', len', a_next, a_text, a_does, a_again, a_taskCell, a_taskPlace, a_taskDepth, a_kept)) : wpY_add P (f_length, f_tasks, f_keptNodes, a_tok, a_len, a_next, a_text, a_does, a_again, a_taskCell, a_taskPlace, a_taskDepth, a_kept) (nI t) := by
  unfold pu_a at K hs
  refine pk_eq t 0 (fun z => ?_) (fun z => ?_)
  · rw [if_pos z] at K
    exact K a_tok a_len h (fun _ _ => rfl) hl (fun _ _ => rfl)
  · simp only [if_neg z] at K hs
    have e1 : 48 + a_len 4 = nI (48 + s.2) := by rw [hl]; exact nI_add 48 s.2
    refine And.intro (by rw [e1]; exact xb_in (by omega) (by omega)) (nm_r (e' := upd a_tok (48 + s.2) (nI t)) (by rw [e1, xb_c (by omega)]) (nm_r (e' := upd a_len 4 (nI (s.2 + 1))) (by rw [hl, nI_1]) (K _ _ (fun k hk => ?_) (fun x hx => pk_un (by omega)) pk_us (fun x hx => pk_un (by omega)))))
    by_cases y : k = s.2
    · rw [if_pos y, y, pk_us]
    · rw [if_neg y, pk_un (by omega)]
      exact h k (by omega)
theorem pu_y {v1 v2 v3 v4 : Int32} (K : ∀ z0 z1 : Int32, z1 + z0 = nI (pu_z v1 + pu_z v2 + pu_z v3 + pu_z v4) → wY_put_39 Q v1 v2 v3 v4 z0 z1 f_length f_tasks f_keptNodes a_tok a_len a_next a_text a_does a_again a_taskCell a_taskPlace a_taskDepth a_kept) : wpY_put Q (f_length, f_tasks, f_keptNodes, a_tok, a_len, a_next, a_text, a_does, a_again, a_taskCell, a_taskPlace, a_taskDepth, a_kept) v1 v2 v3 v4 :=
  br_c (fun h1 => br_c (fun h2 => br_c (fun h3 => br_c (fun h4 => K _ _ (by unfold pu_z; rw [if_pos h1, if_pos h2, if_pos h3, if_pos h4]; decide)) (fun h4 => K _ _ (by unfold pu_z; rw [if_pos h1, if_pos h2, if_pos h3, if_neg h4]; decide))) (fun h3 => br_c (fun h4 => K _ _ (by unfold pu_z; rw [if_pos h1, if_pos h2, if_neg h3, if_pos h4]; decide)) (fun h4 => K _ _ (by unfold pu_z; rw [if_pos h1, if_pos h2, if_neg h3, if_neg h4]; decide)))) (fun h2 => br_c (fun h3 => br_c (fun h4 => K _ _ (by unfold pu_z; rw [if_pos h1, if_neg h2, if_pos h3, if_pos h4]; decide)) (fun h4 => K _ _ (by unfold pu_z; rw [if_pos h1, if_neg h2, if_pos h3, if_neg h4]; decide))) (fun h3 => br_c (fun h4 => K _ _ (by unfold pu_z; rw [if_pos h1, if_neg h2, if_neg h3, if_pos h4]; decide)) (fun h4 => K _ _ (by unfold pu_z; rw [if_pos h1, if_neg h2, if_neg h3, if_neg h4]; decide))))) (fun h1 => br_c (fun h2 => br_c (fun h3 => br_c (fun h4 => K _ _ (by unfold pu_z; rw [if_neg h1, if_pos h2, if_pos h3, if_pos h4]; decide)) (fun h4 => K _ _ (by unfold pu_z; rw [if_neg h1, if_pos h2, if_pos h3, if_neg h4]; decide))) (fun h3 => br_c (fun h4 => K _ _ (by unfold pu_z; rw [if_neg h1, if_pos h2, if_neg h3, if_pos h4]; decide)) (fun h4 => K _ _ (by unfold pu_z; rw [if_neg h1, if_pos h2, if_neg h3, if_neg h4]; decide)))) (fun h2 => br_c (fun h3 => br_c (fun h4 => K _ _ (by unfold pu_z; rw [if_neg h1, if_neg h2, if_pos h3, if_pos h4]; decide)) (fun h4 => K _ _ (by unfold pu_z; rw [if_neg h1, if_neg h2, if_pos h3, if_neg h4]; decide))) (fun h3 => br_c (fun h4 => K _ _ (by unfold pu_z; rw [if_neg h1, if_neg h2, if_neg h3, if_pos h4]; decide)) (fun h4 => K _ _ (by unfold pu_z; rw [if_neg h1, if_neg h2, if_neg h3, if_neg h4]; decide)))))
theorem pu_y39 {v1 v2 v3 v4 z0 z1 : Int32} {n m : Nat} (hz : z1 + z0 = nI m) (hn : n ≤ 12) (hm : m ≤ 4) (hl : a_len 4 = nI n) (k0 : ¬ (pu_O v1 ∧ pu_O v2 ∧ pu_O v3 ∧ pu_O v4 ∧ n + m ≤ 12) → Q (-1) (f_length, f_tasks, f_keptNodes, a_tok, a_len, a_next, a_text, a_does, a_again, a_taskCell, a_taskPlace, a_taskDepth, a_kept))
    (k1 : (pu_O v1 ∧ pu_O v2 ∧ pu_O v3 ∧ pu_O v4 ∧ n + m ≤ 12) → wpY_add (fun u => match u with | (f_length, f_tasks, f_keptNodes, a_tok, a_len, a_next, a_text, a_does, a_again, a_taskCell, a_taskPlace, a_taskDepth, a_kept) => wpY_add (fun u => match u with | (f_length, f_tasks, f_keptNodes, a_tok, a_len, a_next, a_text, a_does, a_again, a_taskCell, a_taskPlace, a_taskDepth, a_kept) => wpY_add (fun u => match u with | (f_length, f_tasks, f_keptNodes, a_tok, a_len, a_next, a_text, a_does, a_again, a_taskCell, a_taskPlace, a_taskDepth, a_kept) => wpY_add (fun u => match u with | (f_length, f_tasks, f_keptNodes, a_tok, a_len, a_next, a_text, a_does, a_again, a_taskCell, a_taskPlace, a_taskDepth, a_kept) => Q (a_len 4) (f_length, f_tasks, f_keptNodes, a_tok, a_len, a_next, a_text, a_does, a_again, a_taskCell, a_taskPlace, a_taskDepth, a_kept)) (f_length, f_tasks, f_keptNodes, a_tok, a_len, a_next, a_text, a_does, a_again, a_taskCell, a_taskPlace, a_taskDepth, a_kept) v4) (f_length, f_tasks, f_keptNodes, a_tok, a_len, a_next, a_text, a_does, a_again, a_taskCell, a_taskPlace, a_taskDepth, a_kept) v3) (f_length, f_tasks, f_keptNodes, a_tok, a_len, a_next, a_text, a_does, a_again, a_taskCell, a_taskPlace, a_taskDepth, a_kept) v2) (f_length, f_tasks, f_keptNodes, a_tok, a_len, a_next, a_text, a_does, a_again, a_taskCell, a_taskPlace, a_taskDepth, a_kept) v1) : wY_put_39 Q v1 v2 v3 v4 z0 z1 f_length f_tasks f_keptNodes a_tok a_len a_next a_text a_does a_again a_taskCell a_taskPlace a_taskDepth a_kept := by
  refine nm_r hz (pu_iV (fun o1 => br_f (by decide) (pu_iV (fun o2 => br_f (by decide) (pu_iV (fun o3 => br_f (by decide) (pu_iV (fun o4 => br_f (by decide) ?_) (fun q => br_t rfl (k0 (fun w => q w.2.2.2.1))))) (fun q => br_t rfl (k0 (fun w => q w.2.2.1))))) (fun q => br_t rfl (k0 (fun w => q w.2.1))))) (fun q => br_t rfl (k0 (fun w => q w.1))))
  exact pk_le (n + m) 12 (fun y => k1 ⟨o1, o2, o3, o4, y⟩) (fun y => k0 (fun w => by omega)) (by rw [hl]; exact nI_add n m)
/-! the reference's edits -/
variable {N q l : Nat}
theorem yp_insert (hN : N < 16) (hq : q ≤ N) (hl : 97 ≤ l ∧ l ≤ 122) (K : ∀ text' : Nat → Int32, (∀ x, x < q → text' x = a_text x) → text' q = nI l → (∀ x, q ≤ x → x < N → text' (x + 1) = a_text x) → Q (nI (N + 1)) (nI (N + 1), f_tasks, f_keptNodes, a_tok, a_len, a_next, text', a_does, a_again, a_taskCell, a_taskPlace, a_taskDepth, a_kept)) : wpY_insert Q (nI N, f_tasks, f_keptNodes, a_tok, a_len, a_next, a_text, a_does, a_again, a_taskCell, a_taskPlace, a_taskDepth, a_kept) (nI q) (nI l) := by
  have loop : ∀ (d j : Nat) (tx : Nat → Int32), j = q + d → j ≤ N → (∀ x, x ≤ j → tx x = a_text x) → (∀ x, j ≤ x → x < N → tx (x + 1) = a_text x) → wY_insert_35 Q (nI q) (nI l) (nI N) f_tasks f_keptNodes (d + 1) (nI j) a_tok a_len a_next tx a_does a_again a_taskCell a_taskPlace a_taskDepth a_kept := by
    intro d
    induction d with
    | zero =>
      intro j tx hj hjN h1 h2
      obtain rfl : j = q := by omega
      refine br_t (nI_le (Nat.le_refl _) (by omega)) (And.intro (xb_in (by omega) (by omega)) (nm_r (e' := upd tx j (nI l)) (by rw [xb_c (by omega)]) (nm_r (nI_1 N) (K _ (fun x hx => ?_) pk_us (fun x hx hx' => ?_)))))
      · rw [pk_un (by omega)]; exact h1 x (by omega)
      · rw [pk_un (by omega)]; exact h2 x hx hx'
    | succ d ih =>
      intro j tx hj hjN h1 h2
      obtain ⟨i0, rfl⟩ : ∃ i0, j = i0 + 1 := ⟨j - 1, by omega⟩
      have e1 : nI (i0 + 1) - 1 = nI i0 := nI_pred i0
      refine br_f (nI_ge (by omega) (by omega)) (And.intro (by rw [e1]; exact xb_in (by omega) (by omega)) (And.intro (xb_in (by omega) (by omega)) (nm_r (e' := upd tx (i0 + 1) (tx i0)) (by rw [e1, xb_c (by omega), xb_c (by omega)]) (nm_r (pk_m1 i0) (ih i0 _ (by omega) (by omega) (fun x hx => ?_) (fun x hx hx' => ?_))))))
      · rw [pk_un (by omega)]; exact h1 x (by omega)
      · by_cases z : x = i0
        · subst z; rw [pk_us]; exact h1 x (by omega)
        · rw [pk_un (by omega)]; exact h2 x (by omega) hx'
  refine br_f (nI_pos (by omega)) (br_f (nI_nlt hq (by omega)) (yp_isL (by omega) (fun z => ?_) (fun _ => br_f (by decide) (pk_eq N 16 (fun y => absurd y (by omega)) (fun _ => ⟨N - q + 1, ?_⟩)))))
  · unfold sv_lt at z
    exact absurd (decide_eq_true hl) (by rw [z]; simp)
  · exact loop (N - q) N a_text (by omega) (Nat.le_refl _) (fun x _ => rfl) (fun x h1 h2 => absurd h2 (by omega))
theorem yp_erase (hN : N ≤ 16) (hq : q < N) (K : ∀ text' : Nat → Int32, (∀ x, x < q → text' x = a_text x) → (∀ x, q ≤ x → x + 1 < N → text' x = a_text (x + 1)) → Q (nI (N - 1)) (nI (N - 1), f_tasks, f_keptNodes, a_tok, a_len, a_next, text', a_does, a_again, a_taskCell, a_taskPlace, a_taskDepth, a_kept)) : wpY_erase Q (nI N, f_tasks, f_keptNodes, a_tok, a_len, a_next, a_text, a_does, a_again, a_taskCell, a_taskPlace, a_taskDepth, a_kept) (nI q) := by
  have loop : ∀ (d j : Nat) (tx : Nat → Int32), j + d = N - 1 → q ≤ j → (∀ x, x < q → tx x = a_text x) → (∀ x, j ≤ x → tx x = a_text x) → (∀ x, q ≤ x → x < j → tx x = a_text (x + 1)) → wY_erase_26 Q (nI (N - 1)) f_tasks f_keptNodes (d + 1) (nI j) a_tok a_len a_next tx a_does a_again a_taskCell a_taskPlace a_taskDepth a_kept := by
    intro d
    induction d with
    | zero =>
      intro j tx hj hjq h1 h2 h3
      obtain rfl : j = N - 1 := by omega
      exact br_t (nI_le (Nat.le_refl _) (by omega)) (K tx h1 (fun x hx hx' => h3 x hx (by omega)))
    | succ d ih =>
      intro j tx hj hjq h1 h2 h3
      have e1 : nI j + 1 = nI (j + 1) := nI_1 j
      refine br_f (nI_ge (by omega) (by omega)) (And.intro (by rw [e1]; exact xb_in (by omega) (by omega)) (And.intro (xb_in (by omega) (by omega)) (nm_r (e' := upd tx j (tx (j + 1))) (by rw [e1, xb_c (by omega), xb_c (by omega)]) (nm_r e1 (ih (j + 1) _ (by omega) (by omega) (fun x hx => ?_) (fun x hx => ?_) (fun x hx hx' => ?_))))))
      · rw [pk_un (by omega)]; exact h1 x hx
      · rw [pk_un (by omega)]; exact h2 x (by omega)
      · by_cases z : x = j
        · subst z; rw [pk_us]; exact h2 (x + 1) (by omega)
        · rw [pk_un z]; exact h3 x hx (by omega)
  refine br_f (nI_pos (by omega)) (br_t (nI_lt hq (by omega)) (nm_r (e' := nI (N - 1)) (pk_sub (b := 1) (by omega)) ⟨N - 1 - q + 1, ?_⟩))
  exact loop (N - 1 - q) q a_text (by omega) (Nat.le_refl _) (fun x _ => rfl) (fun x _ => rfl) (fun x h1 h2 => absurd h2 (by omega))
theorem yp_change (hN : N ≤ 16) (hq : q < N) (hl : 97 ≤ l ∧ l ≤ 122) (K : Q (a_text q) (nI N, f_tasks, f_keptNodes, a_tok, a_len, a_next, upd a_text q (nI l), a_does, a_again, a_taskCell, a_taskPlace, a_taskDepth, a_kept)) : wpY_change Q (nI N, f_tasks, f_keptNodes, a_tok, a_len, a_next, a_text, a_does, a_again, a_taskCell, a_taskPlace, a_taskDepth, a_kept) (nI q) (nI l) := by
  refine br_f (nI_pos (by omega)) (br_f (nI_ge hq (by omega)) (yp_isL (by omega) (fun z => ?_) (fun _ => br_f (by decide) (And.intro (xb_in (by omega) (by omega)) (nm_r (e' := a_text q) (by rw [xb_c (by omega)]) (And.intro (xb_in (by omega) (by omega)) (nm_r (e' := upd a_text q (nI l)) (by rw [xb_c (by omega)]) K)))))))
  unfold sv_lt at z
  exact absurd (decide_eq_true hl) (by rw [z]; simp)
end
end
section
/-! the relation -/
def rl_P (pt : Nat → Nat) (n : Nat) (f_pendingCount : Int32) (a_pending b_tok b_len : Nat → Int32) : Prop := n ≤ 12 ∧ f_pendingCount = nI n ∧ b_len 4 = nI n ∧ ∀ k, k < n → a_pending k = nI (pt k) ∧ b_tok (48 + k) = nI (pt k) ∧ pg_tv (pt k)
def rl_T (T : List (Nat × Nat × Nat)) (f_treeNodes g_keptNodes : Int32) (a_treeRule a_treeStart a_treeEnd a_treeDepth b_kept : Nat → Int32) : Prop := T.length ≤ 30 ∧ f_treeNodes = nI T.length ∧ g_keptNodes = nI T.length ∧ (∀ m z, T[m]? = some z → xt_r a_treeRule a_treeStart a_treeEnd a_treeDepth m z) ∧ yt_K T b_kept
def rl_R (f_pendingCount f_length f_treeNodes : Int32) (a_pending a_text a_operation a_operand a_kept a_looked a_treeRule a_treeStart a_treeEnd a_treeDepth : Nat → Int32) (g_length g_keptNodes : Int32) (b_tok b_len b_next b_text b_kept : Nat → Int32) : Prop :=
  ∃ (tk nx ln c pt : Nat → Nat) (N n : Nat) (T : List (Nat × Nat × Nat)), xl_X f_length a_text a_operation a_operand tk nx ln c N ∧ y_X g_length b_tok b_len b_next b_text tk nx ln c N ∧ xl_M tk nx ln c N a_kept a_looked ∧ rl_P pt n f_pendingCount a_pending b_tok b_len ∧ rl_T T f_treeNodes g_keptNodes a_treeRule a_treeStart a_treeEnd a_treeDepth b_kept
/-- the relation at the head of a turn: the same text and pending tokens, a grammar that the one holds as code and the other as tokens, a memo that is right, the same tree -/
def i_Rel (k : Nat) (u : SX) (v : SY) : Prop := match u with
  | (f_pendingCount, f_length, f_sp, f_pc, f_at, f_far, f_silence, f_depth, f_count, f_treeNodes, f_emitted, f_listing, f_stuck, a_pending, a_text, a_operation, a_operand, a_opens, a_stage, a_hole, a_kept, a_looked, a_active, a_goOn, a_where, a_third, a_fourth, a_treeRule, a_treeStart, a_treeEnd, a_treeDepth, a_part, a_partEnd) => match v with
    | (g_length, g_tasks, g_keptNodes, b_tok, b_len, b_next, b_text, b_does, b_again, b_taskCell, b_taskPlace, b_taskDepth, b_kept) => rl_R f_pendingCount f_length f_treeNodes a_pending a_text a_operation a_operand a_kept a_looked a_treeRule a_treeStart a_treeEnd a_treeDepth g_length g_keptNodes b_tok b_len b_next b_text b_kept
theorem i_up {k : Nat} {u : SX} {v : SY} (h : i_Rel k u v) : i_Rel (k + 5) u v := h
section
variable {f_pendingCount f_length f_sp f_pc f_at f_far f_silence f_depth f_count f_treeNodes f_emitted f_listing f_stuck : Int32} {a_pending a_text a_operation a_operand a_opens a_stage a_hole a_kept a_looked a_active a_goOn a_where a_third a_fourth a_treeRule a_treeStart a_treeEnd a_treeDepth a_part a_partEnd : Nat → Int32} {g_length g_tasks g_keptNodes : Int32} {b_tok b_len b_next b_text b_does b_again b_taskCell b_taskPlace b_taskDepth b_kept : Nat → Int32} {k : Nat}
theorem rl_in (h : rl_R f_pendingCount f_length f_treeNodes a_pending a_text a_operation a_operand a_kept a_looked a_treeRule a_treeStart a_treeEnd a_treeDepth g_length g_keptNodes b_tok b_len b_next b_text b_kept) : i_Rel k (f_pendingCount, f_length, f_sp, f_pc, f_at, f_far, f_silence, f_depth, f_count, f_treeNodes, f_emitted, f_listing, f_stuck, a_pending, a_text, a_operation, a_operand, a_opens, a_stage, a_hole, a_kept, a_looked, a_active, a_goOn, a_where, a_third, a_fourth, a_treeRule, a_treeStart, a_treeEnd, a_treeDepth, a_part, a_partEnd) (g_length, g_tasks, g_keptNodes, b_tok, b_len, b_next, b_text, b_does, b_again, b_taskCell, b_taskPlace, b_taskDepth, b_kept) := h
theorem rl_y {tk nx ln c : Nat → Nat} {N : Nat} {tok' len' nxt' : Nat → Int32} (h : y_X g_length b_tok b_len b_next b_text tk nx ln c N) (h1 : ∀ x, x < 48 → tok' x = b_tok x) (h2 : ∀ x, x < 4 → len' x = b_len x) (h3 : ∀ x, x < 48 → nxt' x = b_next x) : y_X g_length tok' len' nxt' b_text tk nx ln c N := by
  obtain ⟨a1, a2, a3, a4, a5, a6, a7⟩ := h
  refine ⟨a1, a2, a3, a4, a5, fun r e hr g1 g2 => ?_, fun r hr => by rw [h2 r hr]; exact a7 r hr⟩
  have := (a1 r hr).1
  rw [h1 e (by omega), h3 e (by omega)]
  exact a6 r e hr g1 g2
end
theorem i_vc0 : wpX_init (fun u => wpY_init (fun v => i_Rel 0 u v)) := by
  unfold wpX_init
  refine xp_forget (fun kp hk => ?_)
  show rl_R _ _ _ _ _ _ _ _ _ _ _ _ _ _ _ _ _ _ _ _
  refine ⟨fun _ => 0, fun _ => 0, fun _ => 0, fun _ => 0, fun _ => 0, 0, 0, [], ⟨?_, by omega, rfl, fun _ _ => rfl, fun j hj => absurd hj (by omega), fun r hr => ⟨fun _ => rfl, fun h => absurd rfl h⟩⟩, ⟨?_, by omega, rfl, fun _ _ => rfl, fun j hj => absurd hj (by omega), fun r e hr h1 h2 => absurd h2 (by show ¬ e < 12 * r + 0; omega), fun r hr => rfl⟩, ?_, ⟨by omega, rfl, rfl, fun k hk => absurd hk (by omega)⟩, ⟨by decide, rfl, rfl, fun m z h => absurd h (by simp), fun m z h => absurd h (by simp)⟩⟩
  · exact fun r hr => ⟨by show (0 : Nat) ≤ 12; omega, fun h => absurd h (by show ¬ (0 : Nat) < 0; omega), fun e h1 h2 => absurd h2 (by show ¬ e < 12 * r + 0; omega)⟩
  · exact fun r hr => ⟨by show (0 : Nat) ≤ 12; omega, fun h => absurd h (by show ¬ (0 : Nat) < 0; omega), fun e h1 h2 => absurd h2 (by show ¬ e < 12 * r + 0; omega)⟩
  · exact fun r i hr hi => Or.inl (hk _ (by omega))
theorem i_vc_letter {k : Nat} {u : SX} {v : SY} (I : i_Rel k u v) (hk : k + 5 ≤ 2560) (v1 : Int32) : wpX_letter (fun r => wpY_letter (fun r' => r' = r ∧ i_Rel (k + 5) u v) v v1) u v1 := by
  have I' : i_Rel (k + 5) u v := I
  obtain ⟨f_pendingCount, f_length, f_sp, f_pc, f_at, f_far, f_silence, f_depth, f_count, f_treeNodes, f_emitted, f_listing, f_stuck, a_pending, a_text, a_operation, a_operand, a_opens, a_stage, a_hole, a_kept, a_looked, a_active, a_goOn, a_where, a_third, a_fourth, a_treeRule, a_treeStart, a_treeEnd, a_treeDepth, a_part, a_partEnd⟩ := u
  obtain ⟨g_length, g_tasks, g_keptNodes, b_tok, b_len, b_next, b_text, b_does, b_again, b_taskCell, b_taskPlace, b_taskDepth, b_kept⟩ := v
  obtain ⟨tk, nx, ln, c, pt, N, n, T, hX, hY, hM, hP, hT⟩ := I
  have e1 := hX.2.2.1
  have e2 := hY.2.2.1
  have hN := hX.2.1
  subst e1 e2
  by_cases z : v1 < 0
  · exact br_t z (br_t z ⟨rfl, I'⟩)
  · obtain ⟨q, hq, rfl⟩ := nI_of z
    refine br_f z (pk_lt q N (fun y => ?_) (fun y => ?_))
    · refine And.intro (xb_in (by omega) (by omega)) (br_f z (br_t (nI_lt y (by omega)) (And.intro (xb_in (by omega) (by omega)) ⟨?_, I'⟩)))
      rw [xb_c (by omega), (hX.2.2.2.2.1 q y).1, (hY.2.2.2.2.1 q y).1]
    · exact br_f z (br_f (nI_nlt y (by omega)) ⟨rfl, I'⟩)
theorem i_vc_nodes {k : Nat} {u : SX} {v : SY} (I : i_Rel k u v) (hk : k + 5 ≤ 2560) : wpX_nodes (fun r => wpY_nodes (fun r' => r' = r ∧ i_Rel (k + 5) u v) v) u := by
  have I' : i_Rel (k + 5) u v := I
  obtain ⟨f_pendingCount, f_length, f_sp, f_pc, f_at, f_far, f_silence, f_depth, f_count, f_treeNodes, f_emitted, f_listing, f_stuck, a_pending, a_text, a_operation, a_operand, a_opens, a_stage, a_hole, a_kept, a_looked, a_active, a_goOn, a_where, a_third, a_fourth, a_treeRule, a_treeStart, a_treeEnd, a_treeDepth, a_part, a_partEnd⟩ := u
  obtain ⟨g_length, g_tasks, g_keptNodes, b_tok, b_len, b_next, b_text, b_does, b_again, b_taskCell, b_taskPlace, b_taskDepth, b_kept⟩ := v
  obtain ⟨tk, nx, ln, c, pt, N, n, T, hX, hY, hM, hP, hT⟩ := I
  exact ⟨hT.2.2.1.trans hT.2.1.symm, I'⟩
theorem i_vc_node {k : Nat} {u : SX} {v : SY} (I : i_Rel k u v) (hk : k + 5 ≤ 2560) (v1 : Int32) (v2 : Int32) : wpX_node (fun r => wpY_node (fun r' => r' = r ∧ i_Rel (k + 5) u v) v v1 v2) u v1 v2 := by
  have I' : i_Rel (k + 5) u v := I
  obtain ⟨f_pendingCount, f_length, f_sp, f_pc, f_at, f_far, f_silence, f_depth, f_count, f_treeNodes, f_emitted, f_listing, f_stuck, a_pending, a_text, a_operation, a_operand, a_opens, a_stage, a_hole, a_kept, a_looked, a_active, a_goOn, a_where, a_third, a_fourth, a_treeRule, a_treeStart, a_treeEnd, a_treeDepth, a_part, a_partEnd⟩ := u
  obtain ⟨g_length, g_tasks, g_keptNodes, b_tok, b_len, b_next, b_text, b_does, b_again, b_taskCell, b_taskPlace, b_taskDepth, b_kept⟩ := v
  obtain ⟨tk, nx, ln, c, pt, N, n, T, hX, hY, hM, hP, hT⟩ := I
  obtain ⟨t1, t2, t3, t4, t5⟩ := hT
  subst t2 t3
  by_cases z : v1 < 0
  · exact br_t z (br_t z ⟨rfl, I'⟩)
  · obtain ⟨m, hm, rfl⟩ := nI_of z
    refine br_f z (pk_lt m T.length (fun y => ?_) (fun y => br_f z (br_t (nI_le y hm) ⟨rfl, I'⟩)))
    have im : vp_in (nI m) 30 := xb_in (by omega) (by omega)
    have em : (nI m).toNatClampNeg = m := xb_c (by omega)
    have nle : ¬ nI T.length ≤ nI m := nI_ge y (by omega)
    by_cases w : v2 < 0
    · exact br_t w (br_f z (br_f nle (br_t w ⟨rfl, I'⟩)))
    · obtain ⟨s, hs, rfl⟩ := nI_of w
      obtain ⟨zz, hz⟩ : ∃ zz, T[m]? = some zz := ⟨T[m]'y, List.getElem?_eq_getElem y⟩
      obtain ⟨r1, r2, r3, r4⟩ := t4 m zz hz
      obtain ⟨q1, q2, q3, q4⟩ := t5 m zz hz
      refine br_f w (pk_lt 3 s (fun y' => br_f z (br_f nle (br_f w (br_f (nI_ge y' hs) ⟨rfl, I'⟩)))) (fun y' => ?_))
      have yy : ∀ x : Int32, b_kept (4 * m + s) = x → wpY_node (fun r' => r' = x ∧ i_Rel (k + 5) (f_pendingCount, f_length, f_sp, f_pc, f_at, f_far, f_silence, f_depth, f_count, nI T.length, f_emitted, f_listing, f_stuck, a_pending, a_text, a_operation, a_operand, a_opens, a_stage, a_hole, a_kept, a_looked, a_active, a_goOn, a_where, a_third, a_fourth, a_treeRule, a_treeStart, a_treeEnd, a_treeDepth, a_part, a_partEnd) (g_length, g_tasks, nI T.length, b_tok, b_len, b_next, b_text, b_does, b_again, b_taskCell, b_taskPlace, b_taskDepth, b_kept)) (g_length, g_tasks, nI T.length, b_tok, b_len, b_next, b_text, b_does, b_again, b_taskCell, b_taskPlace, b_taskDepth, b_kept) (nI m) (nI s) := by
        intro x hx
        have e4 : 4 * nI m + nI s = nI (4 * m + s) := by rw [show 4 * nI m = nI (4 * m) from pk_mul 4 m, nI_add]
        refine br_f z (br_f nle (br_f w (br_t (nI_le (b := 3) y' (by decide)) (And.intro (by rw [e4]; exact xb_in (by omega) (by omega)) ⟨?_, I'⟩))))
        rw [e4, xb_c (by omega)]
        exact hx
      rcases s with _ | _ | _ | _ | s
      · refine br_t rfl (And.intro im ?_)
        rw [em]
        exact yy _ (by rw [Nat.add_zero, q1, r1])
      · refine br_f (by decide) (br_t rfl (And.intro im ?_))
        rw [em]
        exact yy _ (by rw [q2, r2])
      · refine br_f (by decide) (br_f (by decide) (br_t rfl (And.intro im ?_)))
        rw [em]
        exact yy _ (by rw [q3, r3])
      · refine br_f (by decide) (br_f (by decide) (br_f (by decide) (br_t rfl (And.intro im ?_))))
        rw [em]
        exact yy _ (by rw [q4, r4])
      · omega
end
section
/-! put, define -/
theorem pu_an {s : (Nat → Nat) × Nat} {t : Nat} (ht : t < 128) : (pu_a s t).2 = s.2 + pu_z (nI t) := by
  rcases pu_a_n s t with h | h
  · exact h
  · omega
theorem pu_z1 (v : Int32) : pu_z v ≤ 1 := by
  unfold pu_z
  split <;> omega
theorem i_vc_put {k : Nat} {u : SX} {v : SY} (I : i_Rel k u v) (hk : k + 5 ≤ 2560) (v1 : Int32) (v2 : Int32) (v3 : Int32) (v4 : Int32) : wpX_put (fun r u' => wpY_put (fun r' v' => r' = r ∧ i_Rel (k + 5) u' v') v v1 v2 v3 v4) u v1 v2 v3 v4 := by
  have I' : i_Rel (k + 5) u v := I
  obtain ⟨f_pendingCount, f_length, f_sp, f_pc, f_at, f_far, f_silence, f_depth, f_count, f_treeNodes, f_emitted, f_listing, f_stuck, a_pending, a_text, a_operation, a_operand, a_opens, a_stage, a_hole, a_kept, a_looked, a_active, a_goOn, a_where, a_third, a_fourth, a_treeRule, a_treeStart, a_treeEnd, a_treeDepth, a_part, a_partEnd⟩ := u
  obtain ⟨g_length, g_tasks, g_keptNodes, b_tok, b_len, b_next, b_text, b_does, b_again, b_taskCell, b_taskPlace, b_taskDepth, b_kept⟩ := v
  obtain ⟨tk, nx, ln, c, pt, N, n, T, hX, hY, hM, ⟨p1, p2, p3, p4⟩, hT⟩ := I
  subst p2
  have z1 := pu_z1 v1
  have z2 := pu_z1 v2
  have z3 := pu_z1 v3
  have z4 := pu_z1 v4
  refine pu_x (fun a0 a1 ha => pu_x39 ha p1 (by omega) (fun hbad => ?_) (fun hg => ?_))
  · exact pu_y (fun c0 c1 hc => pu_y39 hc p1 (by omega) p3 (fun _ => ⟨rfl, I'⟩) (fun q => absurd q hbad))
  · have hg' := hg
    obtain ⟨⟨t1, rfl, l1, o1⟩, ⟨t2, rfl, l2, o2⟩, ⟨t3, rfl, l3, o3⟩, ⟨t4, rfl, l4, o4⟩, hs⟩ := hg
    have n1 := pu_an (s := (pt, n)) l1
    have n2 := pu_an (s := pu_a (pt, n) t1) l2
    have n3 := pu_an (s := pu_a (pu_a (pt, n) t1) t2) l3
    have n4 := pu_an (s := pu_a (pu_a (pu_a (pt, n) t1) t2) t3) l4
    simp only at n1
    refine pu_xa (s := (pt, n)) l1 (by omega) (fun k hk => (p4 k hk).1) (fun pe1 h1 => ?_)
    refine pu_xa (s := pu_a (pt, n) t1) l2 (by omega) h1 (fun pe2 h2 => ?_)
    refine pu_xa (s := pu_a (pu_a (pt, n) t1) t2) l3 (by omega) h2 (fun pe3 h3 => ?_)
    refine pu_xa (s := pu_a (pu_a (pu_a (pt, n) t1) t2) t3) l4 (by omega) h3 (fun pe4 h4 => ?_)
    refine pu_y (fun c0 c1 hc => pu_y39 hc p1 (by omega) p3 (fun q => absurd hg' q) (fun _ => ?_))
    refine pu_ya (s := (pt, n)) l1 (by omega) p3 (fun k hk => (p4 k hk).2.1) (fun to1 le1 i1 i2 i3 i4 => ?_)
    refine pu_ya (s := pu_a (pt, n) t1) l2 (by omega) i3 i1 (fun to2 le2 j1 j2 j3 j4 => ?_)
    refine pu_ya (s := pu_a (pu_a (pt, n) t1) t2) l3 (by omega) j3 j1 (fun to3 le3 k1 k2 k3 k4 => ?_)
    refine pu_ya (s := pu_a (pu_a (pu_a (pt, n) t1) t2) t3) l4 (by omega) k3 k1 (fun to4 le4 m1 m2 m3 m4 => ?_)
    refine ⟨m3, rl_in ⟨tk, nx, ln, c, (pu_a (pu_a (pu_a (pu_a (pt, n) t1) t2) t3) t4).1, N, (pu_a (pu_a (pu_a (pu_a (pt, n) t1) t2) t3) t4).2, T, hX, rl_y hY (fun x hx => ?_) (fun x hx => ?_) (fun _ _ => rfl), hM, ⟨by omega, rfl, m3, fun k hk => ⟨h4 k hk, m1 k hk, ?_⟩⟩, hT⟩⟩
    · rw [m2 x hx, k2 x hx, j2 x hx, i2 x hx]
    · rw [m4 x hx, k4 x hx, j4 x hx, i4 x hx]
    · exact pu_a_v (pu_a_v (pu_a_v (pu_a_v (s := (pt, n)) (fun k hk => (p4 k hk).2.2) o1) o2) o3) o4 k hk
theorem rd_X {tk nx ln c pt : Nat → Nat} {N r n c' m : Nat} {f_length : Int32} {a_text op ar op' ar' : Nat → Int32} (hX : xl_X f_length a_text op ar tk nx ln c N) (hr : r < 4) (hn : n ≤ 12) (hG' : pg_G (nr_t tk pt r) (nr_n tk nx pt r n) (nr_l ln r n)) (hc : c' ≤ 40 * r + 36)
    (h0 : n = 0 → op' (40 * r) = 0) (h1 : n ≠ 0 → op' c' = nI 4 ∧ xl_Lay (nr_t tk pt r) (nr_n tk nx pt r n) op' ar' m (12 * r) (40 * r) c') (hk : ∀ x, ¬ (40 * r ≤ x ∧ x ≤ 40 * r + 36) → op' x = op x ∧ ar' x = ar x) :
    xl_X f_length a_text op' ar' (nr_t tk pt r) (nr_n tk nx pt r n) (nr_l ln r n) c N := by
  obtain ⟨a1, a2, a3, a4, a5, a6⟩ := hX
  refine ⟨hG', a2, a3, a4, a5, fun q hq => ?_⟩
  by_cases z : q = r
  · subst z
    have el : nr_l ln q n q = n := if_pos rfl
    rw [el]
    refine ⟨h0, fun y => ?_⟩
    obtain ⟨g1, g2⟩ := h1 y
    refine ⟨?_, m, c', by omega, g1, g2⟩
    by_cases w : 40 * q < c'
    · exact xl_nz hG' _ _ _ _ (pg_C_r hG' hq (by rw [el]; exact y)).1 g2 w
    · have s1 := (pg_C_r hG' hq (by rw [el]; exact y)).1
      have := xl_sz hG' _ _ _ _ s1 g2
      rw [show 40 * q = c' by omega, g1]
      decide
  · have el : nr_l ln r n q = ln q := if_neg z
    rw [el]
    obtain ⟨g1, g2⟩ := a6 q hq
    have far : ∀ x, 40 * q ≤ x → x ≤ 40 * q + 36 → op' x = op x ∧ ar' x = ar x := fun x hx hx' => hk x (by omega)
    refine ⟨fun y => by rw [(far (40 * q) (by omega) (by omega)).1]; exact g1 y, fun y => ?_⟩
    obtain ⟨b1, m', x, b2, b3, b4⟩ := g2 y
    obtain ⟨s1, s2, s3⟩ := pg_C_r a1 hq y
    have sz := xl_sz a1 _ _ _ _ s1 b4
    refine ⟨by rw [(far (40 * q) (by omega) (by omega)).1]; exact b1, m', x, b2, by rw [(far x (by omega) (by omega)).1]; exact b3, ?_⟩
    have l1 := xl_fr a1 _ _ _ _ s1 b4 (fun y u v => far y u (by omega))
    exact xl_cg a1 hq (fun x' h1' h2' => nr_o z s3 hn h1' h2') _ _ _ _ (Nat.le_refl _) (by omega) (by omega) l1
theorem rd_Y {tk nx ln c pt : Nat → Nat} {N r n : Nat} {g_length : Int32} {b_tok b_len b_next b_text tok' len' next' : Nat → Int32} (hY : y_X g_length b_tok b_len b_next b_text tk nx ln c N) (hr : r < 4) (hn : n ≤ 12) (hG' : pg_G (nr_t tk pt r) (nr_n tk nx pt r n) (nr_l ln r n))
    (hp : ∀ k, k < n → b_tok (48 + k) = nI (pt k) ∧ pg_tv (pt k))
    (h1 : ∀ x, x < 60 → ¬ (12 * r ≤ x ∧ x < 12 * r + 12) → tok' x = b_tok x) (h2 : ∀ k, k < 12 → tok' (12 * r + k) = b_tok (48 + k)) (h3 : ∀ x, x < 48 → ¬ (12 * r ≤ x ∧ x < 12 * r + n) → next' x = b_next x) (h4 : ∀ x, 12 * r ≤ x → x < 12 * r + n → next' x = nI (sv (nr_t tk pt r) (12 * r + n) n x))
    (h5 : len' r = nI n) (h6 : ∀ x, x < 4 → x ≠ r → len' x = b_len x) :
    y_X g_length tok' len' next' b_text (nr_t tk pt r) (nr_n tk nx pt r n) (nr_l ln r n) c N := by
  obtain ⟨a1, a2, a3, a4, a5, a6, a7⟩ := hY
  refine ⟨hG', a2, a3, a4, a5, fun q e hq g1 g2 => ?_, fun q hq => ?_⟩
  · by_cases z : q = r
    · subst z
      have el : nr_l ln q n q = n := if_pos rfl
      rw [el] at g2
      have e1 := nr_tk (tk := tk) (pt := pt) (r := q) (k := e - 12 * q) (by omega)
      rw [show 12 * q + (e - 12 * q) = e by omega] at e1
      have e2 := h2 (e - 12 * q) (by omega)
      rw [show 12 * q + (e - 12 * q) = e by omega] at e2
      obtain ⟨u1, u2⟩ := hp (e - 12 * q) (by omega)
      have e3 : nr_n tk nx pt q n e = sv (nr_t tk pt q) (12 * q + n) n e := if_pos ⟨g1, g2⟩
      have ob := (sv_ok (tk := nr_t tk pt q) (to := 12 * q + n) n (by omega) e (by omega) g2).2
      unfold pg_tv at u2
      rw [e1, e3]
      exact ⟨by rw [e2, u1], by omega, h4 e g1 g2, by omega⟩
    · have el : nr_l ln r n q = ln q := if_neg z
      rw [el] at g2
      have hl := (a1 q hq).1
      obtain ⟨e1, e2⟩ := nr_o (tk := tk) (nx := nx) (pt := pt) z hl hn g1 g2
      rw [e1, e2, h1 e (by omega) (by omega), h3 e (by omega) (by omega)]
      exact a6 q e hq g1 g2
  · by_cases z : q = r
    · subst z
      rw [h5]
      exact congrArg nI (if_pos rfl).symm
    · rw [h6 q hq z, a7 q hq]
      exact congrArg nI (if_neg z).symm
theorem i_vc_define {k : Nat} {u : SX} {v : SY} (I : i_Rel k u v) (hk : k + 5 ≤ 2560) (v1 : Int32) : wpX_define (fun r u' => wpY_define (fun r' v' => r' = r ∧ i_Rel (k + 5) u' v') v v1) u v1 := by
  obtain ⟨f_pendingCount, f_length, f_sp, f_pc, f_at, f_far, f_silence, f_depth, f_count, f_treeNodes, f_emitted, f_listing, f_stuck, a_pending, a_text, a_operation, a_operand, a_opens, a_stage, a_hole, a_kept, a_looked, a_active, a_goOn, a_where, a_third, a_fourth, a_treeRule, a_treeStart, a_treeEnd, a_treeDepth, a_part, a_partEnd⟩ := u
  obtain ⟨g_length, g_tasks, g_keptNodes, b_tok, b_len, b_next, b_text, b_does, b_again, b_taskCell, b_taskPlace, b_taskDepth, b_kept⟩ := v
  obtain ⟨tk, nx, ln, c, pt, N, n, T, hX, hY, hM, ⟨p1, p2, p3, p4⟩, hT⟩ := I
  subst p2
  have px : ∀ k, k < n → a_pending k = nI (pt k) ∧ pg_tv (pt k) := fun k hk => ⟨(p4 k hk).1, (p4 k hk).2.2⟩
  have py : ∀ k, k < n → b_tok (48 + k) = nI (pt k) ∧ pg_tv (pt k) := fun k hk => (p4 k hk).2
  by_cases hbad : v1 < 0 ∨ 3 < v1 ∨ ¬ yd_wh pt n
  · refine xp_def_0 p1 px hbad (yp_def_0 p1 p3 py hbad (fun next' g => ⟨rfl, ?_⟩))
    exact rl_in ⟨tk, nx, ln, c, pt, N, 0, T, hX, rl_y hY (fun _ _ => rfl) (fun x hx => pk_un (by omega)) g, hM, ⟨by omega, rfl, pk_us, fun k hk => absurd hk (by omega)⟩, hT⟩
  · have hw : yd_wh pt n := Classical.byContradiction (fun q => hbad (Or.inr (Or.inr q)))
    obtain ⟨r, hr31, rfl⟩ := nI_of (x := v1) (fun q => hbad (Or.inl q))
    have hr : r < 4 := by
      apply Classical.byContradiction
      intro q
      exact hbad (Or.inr (Or.inl (nI_lt (a := 3) (by omega) hr31)))
    have hG' := nr_G (r := r) hX.1 p1 (fun k hk => (px k hk).2) hw
    have el : nr_l ln r n r = n := if_pos rfl
    have M' : ∀ kp : Nat → Int32, (∀ q, q < 68 → kp q = -9) → xl_M (nr_t tk pt r) (nr_n tk nx pt r n) (nr_l ln r n) c N kp a_looked := fun kp hkp q i hq hi => Or.inl (hkp _ (by have := hX.2.1; omega))
    refine xp_def_1 hr hG' el.symm p1 px (fun k hk => nr_tk (by omega)) hw (fun h0 kp hkp => ?_) (fun h0 em c' m op' ar' os' st' ho' kp hkp g1 g2 g3 g4 => ?_)
    · refine yp_def_1 (tk' := nr_t tk pt r) hr p1 p3 py (fun k hk => nr_tk (by omega)) hw (fun tok' next' k1 k2 k3 k4 => ⟨rfl, ?_⟩)
      refine rl_in ⟨nr_t tk pt r, nr_n tk nx pt r n, nr_l ln r n, c, pt, N, 0, T, rd_X (c' := 40 * r) (m := 0) hX hr p1 hG' (by omega) (fun _ => pk_us) (fun y => absurd h0 y) (fun x hx => ⟨pk_un (by omega), rfl⟩), rd_Y hY hr p1 hG' py k1 k2 k3 k4 ?_ ?_, M' kp hkp, ⟨by omega, rfl, pk_us, fun k hk => absurd hk (by omega)⟩, hT⟩
      · rw [pk_un (by omega), pk_us]
      · exact fun x hx hx' => by rw [pk_un (by omega), pk_un hx']
    · refine yp_def_1 (tk' := nr_t tk pt r) hr p1 p3 py (fun k hk => nr_tk (by omega)) hw (fun tok' next' k1 k2 k3 k4 => ⟨rfl, ?_⟩)
      refine rl_in ⟨nr_t tk pt r, nr_n tk nx pt r n, nr_l ln r n, c, pt, N, 0, T, rd_X (c' := c') (m := m) hX hr p1 hG' g1 (fun y => absurd y h0) (fun _ => ⟨g2, g3⟩) (fun x hx => g4 x (by omega)), rd_Y hY hr p1 hG' py k1 k2 k3 k4 ?_ ?_, M' kp hkp, ⟨by omega, rfl, pk_us, fun k hk => absurd hk (by omega)⟩, hT⟩
      · rw [pk_un (by omega), pk_us]
      · exact fun x hx hx' => by rw [pk_un (by omega), pk_un hx']
end
section
/-! insert, erase, change, parse -/
theorem il_x {post : Int32 → Prop} {v : Int32} (k1 : (∃ l, v = nI l ∧ 97 ≤ l ∧ l ≤ 122) → post 1) (k0 : (¬ ∃ l, v = nI l ∧ 97 ≤ l ∧ l ≤ 122) → post 0) : wpX_isLetter post v := by
  by_cases z : v < 0
  · refine br_t (Int32.lt_trans z (by decide)) (k0 ?_)
    rintro ⟨l, rfl, h1, h2⟩
    exact absurd z (nI_pos (by omega))
  · obtain ⟨t, ht, rfl⟩ := nI_of z
    have n0 : ¬ (97 ≤ t ∧ t ≤ 122) → ¬ ∃ l, nI t = nI l ∧ 97 ≤ l ∧ l ≤ 122 := by
      rintro h ⟨l, e, h1, h2⟩
      rw [nI_eq ht (by omega)] at e
      omega
    exact pk_lt t 97 (fun h => k0 (n0 (by omega))) (fun h => pk_lt 122 t (fun h' => k0 (n0 (by omega))) (fun h' => k1 ⟨t, rfl, h, h'⟩))
theorem il_y {post : Int32 → Prop} {v : Int32} (k1 : (∃ l, v = nI l ∧ 97 ≤ l ∧ l ≤ 122) → post 1) (k0 : (¬ ∃ l, v = nI l ∧ 97 ≤ l ∧ l ≤ 122) → post 0) : wpY_isLetter post v := by
  by_cases z : v < 0
  · refine br_t (Int32.lt_trans z (by decide)) (k0 ?_)
    rintro ⟨l, rfl, h1, h2⟩
    exact absurd z (nI_pos (by omega))
  · obtain ⟨t, ht, rfl⟩ := nI_of z
    have n0 : ¬ (97 ≤ t ∧ t ≤ 122) → ¬ ∃ l, nI t = nI l ∧ 97 ≤ l ∧ l ≤ 122 := by
      rintro h ⟨l, e, h1, h2⟩
      rw [nI_eq ht (by omega)] at e
      omega
    exact pk_lt t 97 (fun h => k0 (n0 (by omega))) (fun h => pk_lt 122 t (fun h' => k0 (n0 (by omega))) (fun h' => k1 ⟨t, rfl, h, h'⟩))
theorem i_vc_insert {k : Nat} {u : SX} {v : SY} (I : i_Rel k u v) (hk : k + 5 ≤ 2560) (v1 : Int32) (v2 : Int32) : wpX_insert (fun r u' => wpY_insert (fun r' v' => r' = r ∧ i_Rel (k + 5) u' v') v v1 v2) u v1 v2 := by
  have I' : i_Rel (k + 5) u v := I
  obtain ⟨f_pendingCount, f_length, f_sp, f_pc, f_at, f_far, f_silence, f_depth, f_count, f_treeNodes, f_emitted, f_listing, f_stuck, a_pending, a_text, a_operation, a_operand, a_opens, a_stage, a_hole, a_kept, a_looked, a_active, a_goOn, a_where, a_third, a_fourth, a_treeRule, a_treeStart, a_treeEnd, a_treeDepth, a_part, a_partEnd⟩ := u
  obtain ⟨g_length, g_tasks, g_keptNodes, b_tok, b_len, b_next, b_text, b_does, b_again, b_taskCell, b_taskPlace, b_taskDepth, b_kept⟩ := v
  obtain ⟨tk, nx, ln, c, pt, N, n, T, hX, hY, hM, hP, hT⟩ := I
  have e1 := hX.2.2.1
  have e2 := hY.2.2.1
  have hN := hX.2.1
  subst e1 e2
  by_cases z : v1 < 0
  · exact br_t z (br_t z ⟨rfl, I'⟩)
  obtain ⟨q, hq31, rfl⟩ := nI_of z
  by_cases y : N < q
  · exact br_f z (br_t (nI_lt y hq31) (br_f z (br_t (nI_lt y hq31) ⟨rfl, I'⟩)))
  have y' : ¬ nI N < nI q := nI_nlt (by omega) (by omega)
  by_cases w : ∃ l, v2 = nI l ∧ 97 ≤ l ∧ l ≤ 122
  · by_cases f : N = 16
    · exact br_f z (br_f y' (il_x (fun _ => br_f (by decide) (br_t (by rw [f]; rfl) (br_f z (br_f y' (il_y (fun _ => br_f (by decide) (br_t (by rw [f]; rfl) ⟨rfl, I'⟩)) (fun q => absurd w q)))))) (fun q => absurd w q)))
    · obtain ⟨l, rfl, l1, l2⟩ := w
      have h0 := hX.2.2.2.1
      have hc := hX.2.2.2.2.1
      refine xp_insert (by omega) (by omega) ⟨l1, l2⟩ (fun x hx => ⟨c x, by have := (hc x hx).2; omega, (hc x hx).1⟩) (fun r i hr hi => ?_) (fun text' kp2 lk2 t1 t2 t3 hd => ?_)
      · rcases xe_ent hX.1 h0 hN hM hr hi with h | h | ⟨j, _, hj, h⟩
        · exact Or.inl h
        · exact Or.inr (Or.inl h)
        · exact Or.inr (Or.inr ⟨j, hj, h⟩)
      · refine yp_insert (by omega) (by omega) ⟨l1, l2⟩ (fun tex' s1 s2 s3 => ⟨rfl, ?_⟩)
        have c1 : ∀ x, x < q → (fun x => if x < q then c x else if x = q then l else c (x - 1)) x = c x := fun x hx => if_pos hx
        have c2 : ∀ x, q ≤ x → (fun x => if x < q then c x else if x = q then l else c (x - 1)) (x + 1) = c x := fun x hx => by
          show (if x + 1 < q then _ else if x + 1 = q then _ else _) = _
          rw [if_neg (by omega), if_neg (by omega)]
          rfl
        have c3 : (fun x => if x < q then c x else if x = q then l else c (x - 1)) q = l := by
          show (if q < q then _ else if q = q then _ else _) = _
          rw [if_neg (by omega), if_pos rfl]
        have z0 : ∀ x, N + 1 ≤ x → (fun x => if x < q then c x else if x = q then l else c (x - 1)) x = 0 := fun x hx => by
          obtain ⟨x', rfl⟩ : ∃ x', x = x' + 1 := ⟨x - 1, by omega⟩
          rw [c2 x' (by omega)]
          exact h0 x' (by omega)
        have tx : ∀ (tt b : Nat → Int32), (∀ x, x < q → tt x = b x) → tt q = nI l → (∀ x, q ≤ x → x < N → tt (x + 1) = b x) → (∀ j, j < N → b j = nI (c j) ∧ 97 ≤ c j ∧ c j ≤ 122) → ∀ j, j < N + 1 → tt j = nI ((fun x => if x < q then c x else if x = q then l else c (x - 1)) j) ∧ 97 ≤ (fun x => if x < q then c x else if x = q then l else c (x - 1)) j ∧ (fun x => if x < q then c x else if x = q then l else c (x - 1)) j ≤ 122 := by
          intro tt b g1 g2 g3 g4 j hj
          by_cases a1 : j < q
          · rw [c1 j a1, g1 j a1]; exact g4 j (by omega)
          · by_cases a2 : j = q
            · subst a2
              rw [c3, g2]
              exact ⟨rfl, l1, l2⟩
            · obtain ⟨j', rfl⟩ : ∃ j', j = j' + 1 := ⟨j - 1, by omega⟩
              rw [c2 j' (by omega), g3 j' (by omega) (by omega)]
              exact g4 j' (by omega)
        exact rl_in ⟨tk, nx, ln, _, pt, N + 1, n, T, ⟨hX.1, by omega, rfl, z0, tx _ _ t1 t2 t3 hc, hX.2.2.2.2.2⟩, ⟨hY.1, by omega, rfl, z0, tx _ _ s1 s2 s3 hY.2.2.2.2.1, hY.2.2.2.2.2⟩, xe_ins hX.1 h0 (by omega) hM (by omega) c1 c2 hd, hP, hT⟩
  · exact br_f z (br_f y' (il_x (fun q => absurd q w) (fun _ => br_t rfl (br_f z (br_f y' (il_y (fun q => absurd q w) (fun _ => br_t rfl ⟨rfl, I'⟩)))))))
theorem i_vc_erase {k : Nat} {u : SX} {v : SY} (I : i_Rel k u v) (hk : k + 5 ≤ 2560) (v1 : Int32) : wpX_erase (fun r u' => wpY_erase (fun r' v' => r' = r ∧ i_Rel (k + 5) u' v') v v1) u v1 := by
  have I' : i_Rel (k + 5) u v := I
  obtain ⟨f_pendingCount, f_length, f_sp, f_pc, f_at, f_far, f_silence, f_depth, f_count, f_treeNodes, f_emitted, f_listing, f_stuck, a_pending, a_text, a_operation, a_operand, a_opens, a_stage, a_hole, a_kept, a_looked, a_active, a_goOn, a_where, a_third, a_fourth, a_treeRule, a_treeStart, a_treeEnd, a_treeDepth, a_part, a_partEnd⟩ := u
  obtain ⟨g_length, g_tasks, g_keptNodes, b_tok, b_len, b_next, b_text, b_does, b_again, b_taskCell, b_taskPlace, b_taskDepth, b_kept⟩ := v
  obtain ⟨tk, nx, ln, c, pt, N, n, T, hX, hY, hM, hP, hT⟩ := I
  have e1 := hX.2.2.1
  have e2 := hY.2.2.1
  have hN := hX.2.1
  subst e1 e2
  by_cases z : v1 < 0
  · exact br_t z (br_t z ⟨rfl, I'⟩)
  obtain ⟨q, hq31, rfl⟩ := nI_of z
  by_cases y : q < N
  · have h0 := hX.2.2.2.1
    have hc := hX.2.2.2.2.1
    refine xp_erase hN y (fun x hx => ⟨c x, by have := (hc x hx).2; omega, (hc x hx).1⟩) (fun r i hr hi hqi => ?_) (fun text' kp2 lk2 t1 t2 hd => ?_)
    · rcases xe_ent hX.1 h0 hN hM hr hi with h | h | ⟨j, hij, hj, h⟩
      · exact Or.inl h
      · exact Or.inr (Or.inl h)
      · exact Or.inr (Or.inr ⟨j - 1, by omega, by rw [h]; exact congrArg nI (by omega)⟩)
    · refine yp_erase hN y (fun tex' s1 s2 => ⟨rfl, ?_⟩)
      have c1 : ∀ x, x < q → (fun x => if x < q then c x else c (x + 1)) x = c x := fun x hx => if_pos hx
      have c2 : ∀ x, q ≤ x → (fun x => if x < q then c x else c (x + 1)) x = c (x + 1) := fun x hx => if_neg (by omega)
      have z0 : ∀ x, N - 1 ≤ x → (fun x => if x < q then c x else c (x + 1)) x = 0 := fun x hx => by
        rw [c2 x (by omega)]
        exact h0 _ (by omega)
      have tx : ∀ (tt b : Nat → Int32), (∀ x, x < q → tt x = b x) → (∀ x, q ≤ x → x + 1 < N → tt x = b (x + 1)) → (∀ j, j < N → b j = nI (c j) ∧ 97 ≤ c j ∧ c j ≤ 122) → ∀ j, j < N - 1 → tt j = nI ((fun x => if x < q then c x else c (x + 1)) j) ∧ 97 ≤ (fun x => if x < q then c x else c (x + 1)) j ∧ (fun x => if x < q then c x else c (x + 1)) j ≤ 122 := by
        intro tt b g1 g3 g4 j hj
        by_cases a1 : j < q
        · rw [c1 j a1, g1 j a1]; exact g4 j (by omega)
        · rw [c2 j (by omega), g3 j (by omega) (by omega)]
          exact g4 (j + 1) (by omega)
      exact rl_in ⟨tk, nx, ln, _, pt, N - 1, n, T, ⟨hX.1, by omega, rfl, z0, tx _ _ t1 t2 hc, hX.2.2.2.2.2⟩, ⟨hY.1, by omega, rfl, z0, tx _ _ s1 s2 hY.2.2.2.2.1, hY.2.2.2.2.2⟩, xe_era hX.1 h0 hN hM y c1 c2 hd, hP, hT⟩
  · have y' : ¬ nI q < nI N := nI_nlt (by omega) hq31
    exact br_f z (br_f y' (br_f z (br_f y' ⟨rfl, I'⟩)))
theorem i_vc_change {k : Nat} {u : SX} {v : SY} (I : i_Rel k u v) (hk : k + 5 ≤ 2560) (v1 : Int32) (v2 : Int32) : wpX_change (fun r u' => wpY_change (fun r' v' => r' = r ∧ i_Rel (k + 5) u' v') v v1 v2) u v1 v2 := by
  have I' : i_Rel (k + 5) u v := I
  obtain ⟨f_pendingCount, f_length, f_sp, f_pc, f_at, f_far, f_silence, f_depth, f_count, f_treeNodes, f_emitted, f_listing, f_stuck, a_pending, a_text, a_operation, a_operand, a_opens, a_stage, a_hole, a_kept, a_looked, a_active, a_goOn, a_where, a_third, a_fourth, a_treeRule, a_treeStart, a_treeEnd, a_treeDepth, a_part, a_partEnd⟩ := u
  obtain ⟨g_length, g_tasks, g_keptNodes, b_tok, b_len, b_next, b_text, b_does, b_again, b_taskCell, b_taskPlace, b_taskDepth, b_kept⟩ := v
  obtain ⟨tk, nx, ln, c, pt, N, n, T, hX, hY, hM, hP, hT⟩ := I
  have e1 := hX.2.2.1
  have e2 := hY.2.2.1
  have hN := hX.2.1
  subst e1 e2
  by_cases z : v1 < 0
  · exact br_t z (br_t z ⟨rfl, I'⟩)
  obtain ⟨q, hq31, rfl⟩ := nI_of z
  by_cases y : N ≤ q
  · exact br_f z (br_t (nI_le y hq31) (br_f z (br_t (nI_le y hq31) ⟨rfl, I'⟩)))
  have y' : ¬ nI N ≤ nI q := nI_ge (by omega) (by omega)
  by_cases w : ∃ l, v2 = nI l ∧ 97 ≤ l ∧ l ≤ 122
  · obtain ⟨l, rfl, l1, l2⟩ := w
    have h0 := hX.2.2.2.1
    have hc := hX.2.2.2.2.1
    have hc' := hY.2.2.2.2.1
    refine xp_change hN (by omega) ⟨l1, l2⟩ (fun kp2 hd => yp_change hN (by omega) ⟨l1, l2⟩ ⟨by rw [(hc q (by omega)).1, (hc' q (by omega)).1], ?_⟩)
    have c1 : ∀ x, x ≠ q → (fun x => if x = q then l else c x) x = c x := fun x hx => if_neg hx
    have c3 : (fun x => if x = q then l else c x) q = l := if_pos rfl
    have z0 : ∀ x, N ≤ x → (fun x => if x = q then l else c x) x = 0 := fun x hx => by
      rw [c1 x (by omega)]
      exact h0 x hx
    have tx : ∀ (b : Nat → Int32), (∀ j, j < N → b j = nI (c j) ∧ 97 ≤ c j ∧ c j ≤ 122) → ∀ j, j < N → upd b q (nI l) j = nI ((fun x => if x = q then l else c x) j) ∧ 97 ≤ (fun x => if x = q then l else c x) j ∧ (fun x => if x = q then l else c x) j ≤ 122 := by
      intro b g4 j hj
      by_cases a2 : j = q
      · subst a2
        rw [c3, pk_us]
        exact ⟨rfl, l1, l2⟩
      · rw [c1 j a2, pk_un a2]
        exact g4 j hj
    exact rl_in ⟨tk, nx, ln, _, pt, N, n, T, ⟨hX.1, hN, rfl, z0, tx _ hc, hX.2.2.2.2.2⟩, ⟨hY.1, hN, rfl, z0, tx _ hc', hY.2.2.2.2.2⟩, xe_chg hX.1 h0 hN hM (by omega) c1 hd, hP, hT⟩
  · exact br_f z (br_f y' (il_x (fun q => absurd q w) (fun _ => br_t rfl (br_f z (br_f y' (il_y (fun q => absurd q w) (fun _ => br_t rfl ⟨rfl, I'⟩)))))))
theorem i_vc_parse {k : Nat} {u : SX} {v : SY} (I : i_Rel k u v) (hk : k + 5 ≤ 2560) (v1 : Int32) (v2 : Int32) : wpX_parse (fun r u' => wpY_parse (fun r' v' => r' = r ∧ i_Rel (k + 5) u' v') v v1 v2) u v1 v2 := by
  have I' : i_Rel (k + 5) u v := I
  obtain ⟨f_pendingCount, f_length, f_sp, f_pc, f_at, f_far, f_silence, f_depth, f_count, f_treeNodes, f_emitted, f_listing, f_stuck, a_pending, a_text, a_operation, a_operand, a_opens, a_stage, a_hole, a_kept, a_looked, a_active, a_goOn, a_where, a_third, a_fourth, a_treeRule, a_treeStart, a_treeEnd, a_treeDepth, a_part, a_partEnd⟩ := u
  obtain ⟨g_length, g_tasks, g_keptNodes, b_tok, b_len, b_next, b_text, b_does, b_again, b_taskCell, b_taskPlace, b_taskDepth, b_kept⟩ := v
  obtain ⟨tk, nx, ln, c, pt, N, n, T, hX, hY, hM, hP, hT⟩ := I
  have hN := hX.2.1
  have eX := hX.2.2.1
  have eY := hY.2.2.1
  by_cases z : v1 < 0
  · exact br_t z (br_t z ⟨rfl, I'⟩)
  obtain ⟨r, hr31, rfl⟩ := nI_of z
  by_cases y : 3 < r
  · have y' : (3 : Int32) < nI r := nI_lt (a := 3) y hr31
    exact br_f z (br_t y' (br_f z (br_t y' ⟨rfl, I'⟩)))
  have y' : ¬ (3 : Int32) < nI r := nI_nlt (a := 3) (by omega) (by decide)
  by_cases w : v2 < 0
  · exact br_f z (br_f y' (br_t w (br_f z (br_f y' (br_t w ⟨rfl, I'⟩)))))
  obtain ⟨i, hi31, rfl⟩ := nI_of w
  by_cases x : i ≤ N
  · have hr : r < 4 := by omega
    have tnil : ∀ (tR tS tE tD kk : Nat → Int32) (fn gn : Int32), fn = nI ([] : List (Nat × Nat × Nat)).length → gn = nI ([] : List (Nat × Nat × Nat)).length → rl_T [] fn gn tR tS tE tD kk := fun tR tS tE tD kk fn gn h1 h2 => ⟨by decide, h1, h2, fun m z h => absurd h (by simp), fun m z h => absurd h (by simp)⟩
    by_cases hl : ln r = 0
    · refine xp_parse_1 hX hr x (Or.inl ⟨hl, rfl, rfl⟩) hM (fun kp' lk' hM' => ?_)
      intro f_sp f_pc f_at f_far f_silence f_depth f_count f_listing f_stuck a_active a_goOn a_where a_third a_fourth a_part a_partEnd a_treeRule a_treeStart a_treeEnd a_treeDepth hrep
      refine yp_parse_0 hY hr x hl ?_
      intro g_tasks b_does b_again b_taskCell b_taskPlace b_taskDepth b_kept hkk
      exact ⟨rfl, rl_in ⟨tk, nx, ln, c, pt, N, n, [], hX, hY, hM', hP, tnil _ _ _ _ _ _ _ rfl rfl⟩⟩
    · by_cases nv : xl_NV tk nx ln c (12 * r) i
      · refine xp_parse_n hX hr x hl nv hM (fun kp' lk' hM' => ?_)
        intro f_sp f_pc f_at f_far f_silence f_depth f_count f_listing f_stuck a_active a_goOn a_where a_third a_fourth a_part a_partEnd a_treeRule a_treeStart a_treeEnd a_treeDepth hrep
        have h0 : (pg_lD tk nx ln c (12 * r) i).1 = 0 := by
          apply Classical.byContradiction
          intro q
          obtain ⟨m, hm⟩ := pg_lD_ex q
          have := nv m
          rw [hm] at this
          exact q this
        refine yp_parse_1 hY hr x hl h0 (by omega) ?_
        intro g_tasks b_does b_again b_taskCell b_taskPlace b_taskDepth b_kept hkk
        exact ⟨rfl, rl_in ⟨tk, nx, ln, c, pt, N, n, [], hX, hY, hM', hP, tnil _ _ _ _ _ _ _ rfl rfl⟩⟩
      · obtain ⟨ρ, o, ww, kk, p, hev, ho⟩ := xl_nv_c nv
        rcases o with _ | _ | j
        · exact absurd rfl ho
        · refine xp_parse_1 hX hr x (Or.inr ⟨hl, by omega, ρ, kk, p, hev⟩) hM (fun kp' lk' hM' => ?_)
          intro f_sp f_pc f_at f_far f_silence f_depth f_count f_listing f_stuck a_active a_goOn a_where a_third a_fourth a_part a_partEnd a_treeRule a_treeStart a_treeEnd a_treeDepth hrep
          have h1 : (pg_lD tk nx ln c (12 * r) i).1 = 1 := by
            rw [pg_lD_of (n := ρ) (by rw [hev]; simp), hev]
          refine yp_parse_1 hY hr x hl h1 (by omega) ?_
          intro g_tasks b_does b_again b_taskCell b_taskPlace b_taskDepth b_kept hkk
          exact ⟨rfl, rl_in ⟨tk, nx, ln, c, pt, N, n, [], hX, hY, hM', hP, tnil _ _ _ _ _ _ _ rfl rfl⟩⟩
        · refine xp_parse_2 hX hr x hl hev hM (fun kp' lk' hM' => ?_)
          intro f_sp f_pc f_at f_far f_silence f_depth f_count f_listing f_stuck a_active a_goOn a_where a_third a_fourth a_part a_partEnd a_treeRule a_treeStart a_treeEnd a_treeDepth hrep
          refine yp_parse_2 hY hr x hl hev ?_
          intro g_tasks b_does b_again b_taskCell b_taskPlace b_taskDepth b_kept hkk
          exact ⟨rfl, rl_in ⟨tk, nx, ln, c, pt, N, n, _, hX, hY, hM', hP, ⟨by rw [List.length_take]; omega, rfl, rfl, hrep, hkk⟩⟩⟩
  · have x1 : ¬ nI i ≤ f_length := by rw [eX]; exact nI_ge (by omega) hi31
    have x2 : ¬ nI i ≤ g_length := by rw [eY]; exact nI_ge (by omega) hi31
    exact br_f z (br_f y' (br_f w (br_f x1 (br_f z (br_f y' (br_f w (br_f x2 ⟨rfl, I'⟩)))))))
end
