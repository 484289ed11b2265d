section
/-! pure rows to paste: stores, nI and lN arithmetic, masks, shifts, narrowing, branches by naturals (pk_le, pk_lt, pk_eq), loops (lp1 .. lp16: the measure of the state; rp1 ..: recursion), negatives. Take what you need -/
theorem pk_us {f : Nat → Int32} {k : Nat} {x : Int32} : upd f k x k = x := if_pos rfl
theorem pk_un {f : Nat → Int32} {k j : Nat} {x : Int32} (h : j ≠ k) : upd f k x j = f j := if_neg h
theorem pk_sub {a b : Nat} (h : b ≤ a) : nI a - nI b = nI (a - b) := by
  obtain ⟨c, rfl⟩ : ∃ c, a = c + b := ⟨a - b, by omega⟩
  rw [← nI_add, Int32.add_sub_cancel, Nat.add_sub_cancel]
theorem pk_m1 (n : Nat) : nI (n + 1) + (-1) = nI n := by
  rw [← nI_1, Int32.add_assoc, show (1 : Int32) + (-1) = 0 from rfl, Int32.add_zero]
theorem pk_mul (a b : Nat) : nI a * nI b = nI (a * b) := (Int32.ofNat_mul a b).symm
theorem pk_div {a d : Nat} (ha : a < 2 ^ 31) (h0 : 0 < d) (hd : d < 2 ^ 31) : nI a / nI d = nI (a / d) := by
  apply Int32.toInt_inj.mp
  rw [lg_idiv_nonneg (by rw [nI_toInt ha]; omega) (by rw [nI_toInt hd]; omega), nI_toInt ha, nI_toInt hd, nI_toInt (Nat.lt_of_le_of_lt (Nat.div_le_self a d) ha)]
  first | rfl | exact (Int.natCast_ediv _ _).symm
theorem pk_rem {a d : Nat} (ha : a < 2 ^ 31) (h0 : 0 < d) (hd : d < 2 ^ 31) : nI a - nI a / nI d * nI d = nI (a % d) := by
  rw [pk_div ha h0 hd, pk_mul, pk_sub (Nat.div_mul_le_self a d)]
  exact congrArg nI (by have := Nat.div_add_mod' a d; omega)
theorem pk_sub_toInt {a b : Nat} (ha : a < 2 ^ 30) (hb : b < 2 ^ 30) : (nI a - nI b).toInt = (a : Int) - b := by
  rw [Int32.toInt_sub, nI_toInt (by omega), nI_toInt (by omega)]
  exact Int.bmod_eq_of_le (by omega) (by omega)
theorem pk_sneg {a b : Nat} (hb : b < 2 ^ 30) (h : a < b) : nI a - nI b < 0 := by
  rw [Int32.lt_iff_toInt_lt, pk_sub_toInt (by omega) hb, show (0 : Int32).toInt = 0 from by decide]
  omega
theorem pk_ix (x : Int32) {n : Nat} (hn : n < 2 ^ 31) : x < 0 ∨ nI n ≤ x ∨ ∃ j : Nat, j < n ∧ x = nI j := by
  by_cases h : x < 0
  · exact Or.inl h
  · obtain ⟨j, hj, rfl⟩ := nI_of h
    by_cases h2 : j < n
    · exact Or.inr (Or.inr ⟨j, h2, rfl⟩)
    · exact Or.inr (Or.inl (nI_le (by omega) hj))
theorem pk_le {x y : Int32} {A B : Prop} (a b : Nat) (f : a ≤ b → A) (g : b < a → B) (hx : x = nI a := by rfl) (hy : y = nI b := by rfl) (ha : a < 2 ^ 31 := by omega) (hb : b < 2 ^ 31 := by omega) : (x ≤ y → A) ∧ (¬ x ≤ y → B) := by
  subst hx hy
  rw [nI_leI ha hb]
  exact ⟨f, fun z => g (by omega)⟩
theorem pk_lt {x y : Int32} {A B : Prop} (a b : Nat) (f : a < b → A) (g : b ≤ a → B) (hx : x = nI a := by rfl) (hy : y = nI b := by rfl) (ha : a < 2 ^ 31 := by omega) (hb : b < 2 ^ 31 := by omega) : (x < y → A) ∧ (¬ x < y → B) := by
  subst hx hy
  rw [nI_ltI ha hb]
  exact ⟨f, fun z => g (by omega)⟩
theorem pk_eq {x y : Int32} {A B : Prop} (a b : Nat) (f : a = b → A) (g : a ≠ b → B) (hx : x = nI a := by rfl) (hy : y = nI b := by rfl) (ha : a < 2 ^ 31 := by omega) (hb : b < 2 ^ 31 := by omega) : (x = y → A) ∧ (¬ x = y → B) := by
  subst hx hy
  rw [nI_eq ha hb]
  exact ⟨f, g⟩
theorem pk_in {x : Int32} (n N : Nat) (h : n < N) (hx : x = nI n := by rfl) (hN : N < 2 ^ 31 := by omega) : vp_in x N := by
  subst hx
  exact vp_in_nI h hN
theorem pk_cl {x : Int32} (n : Nat) (hx : x = nI n := by rfl) (h : n < 2 ^ 31 := by omega) : x.toNatClampNeg = n := by
  subst hx
  exact nI_clamp h
theorem pk_tn {n : Nat} (h : n < 2 ^ 32) : (nI n).toBitVec.toNat = n := Nat.mod_eq_of_lt h
theorem pk_and (x : Int32) {m : Int32} (k : Nat) (hm : m.toBitVec.toNat = 2 ^ k - 1) : x &&& m = nI (x.toBitVec.toNat % 2 ^ k) := by
  apply Int32.toBitVec_inj.mp
  apply BitVec.eq_of_toNat_eq
  rw [Int32.toBitVec_and, BitVec.toNat_and, hm, Nat.and_two_pow_sub_one_eq_mod]
  show _ = (BitVec.ofNat 32 _).toNat
  rw [BitVec.toNat_ofNat]
  exact (Nat.mod_eq_of_lt (Nat.lt_of_le_of_lt (Nat.mod_le _ _) x.toBitVec.isLt)).symm
theorem pk_andN {n : Nat} (h : n < 2 ^ 32) {m : Int32} (k : Nat) (hm : m.toBitVec.toNat = 2 ^ k - 1) : nI n &&& m = nI (n % 2 ^ k) := by
  rw [pk_and _ k hm, pk_tn h]
theorem pk_andE (x : Int32) {m : Int32} (k : Nat) (hm : m.toBitVec.toNat = 2 ^ k - 1) : ∃ j : Nat, j < 2 ^ k ∧ x &&& m = nI j := ⟨_, Nat.mod_lt _ (Nat.two_pow_pos k), pk_and x k hm⟩
theorem pk_andIn (x : Int32) {m : Int32} (k : Nat) (hm : m.toBitVec.toNat = 2 ^ k - 1) (hk : k ≤ 30) : vp_in (x &&& m) (2 ^ k) := by
  obtain ⟨j, hj, e⟩ := pk_andE x k hm
  rw [e]
  exact vp_in_nI hj (Nat.lt_of_le_of_lt (Nat.pow_le_pow_right (by decide) hk) (by decide))
theorem pk_shl (a s : Int32) (k : Nat) (hs : (s.toBitVec.smod 32).toNat = k) : (a <<< s).toBitVec.toNat = a.toBitVec.toNat * 2 ^ k % 2 ^ 32 := by
  show (a.toBitVec <<< (s.toBitVec.smod 32).toNat).toNat = _
  rw [hs, BitVec.toNat_shiftLeft, Nat.shiftLeft_eq]
theorem pk_shlN {n : Nat} (s : Int32) (k : Nat) (hs : (s.toBitVec.smod 32).toNat = k) (h : n * 2 ^ k < 2 ^ 32) : nI n <<< s = nI (n * 2 ^ k) := by
  apply Int32.toBitVec_inj.mp
  apply BitVec.eq_of_toNat_eq
  have hn : n < 2 ^ 32 := Nat.lt_of_le_of_lt (Nat.le_mul_of_pos_right n (Nat.two_pow_pos k)) h
  rw [pk_shl _ _ k hs, pk_tn hn, pk_tn h, Nat.mod_eq_of_lt h]
theorem pk_shr (a s : Int32) (k : Nat) (hs : (s.toBitVec.smod 32).toNat = k) : (a >>> s).toInt = a.toInt >>> k := by
  show (a.toBitVec.sshiftRight (s.toBitVec.smod 32).toNat).toInt = _
  rw [hs, BitVec.toInt_sshiftRight]
  rfl
theorem pk_shrN {n : Nat} (h : n < 2 ^ 31) (s : Int32) (k : Nat) (hs : (s.toBitVec.smod 32).toNat = k) : nI n >>> s = nI (n / 2 ^ k) := by
  apply Int32.toInt_inj.mp
  have h2 : n / 2 ^ k ≤ n := Nat.div_le_self _ _
  rw [pk_shr _ _ k hs, nI_toInt h, nI_toInt (by omega), Int.shiftRight_eq_div_pow]
  rfl
theorem pk_ushr (x s : Int32) (k : Nat) (hs : ((s.toUInt32 &&& Int32.toUInt32 31).toBitVec % 32).toNat = k) : (x.toUInt32 >>> (s.toUInt32 &&& Int32.toUInt32 31)).toInt32.toBitVec.toNat = x.toBitVec.toNat / 2 ^ k := by
  have e : (x.toUInt32 >>> (s.toUInt32 &&& Int32.toUInt32 31)).toInt32.toBitVec = x.toBitVec >>> k := by
    rw [← hs]
    exact UInt32.toBitVec_shiftRight _ _
  rw [e, BitVec.toNat_ushiftRight, Nat.shiftRight_eq_div_pow]
theorem pk_ushrN {n : Nat} (hn : n < 2 ^ 32) (s : Int32) (k : Nat) (hs : ((s.toUInt32 &&& Int32.toUInt32 31).toBitVec % 32).toNat = k) : ((nI n).toUInt32 >>> (s.toUInt32 &&& Int32.toUInt32 31)).toInt32 = nI (n / 2 ^ k) := by
  apply Int32.toBitVec_inj.mp
  apply BitVec.eq_of_toNat_eq
  rw [pk_ushr _ s k hs, pk_tn hn, pk_tn (Nat.lt_of_le_of_lt (Nat.div_le_self _ _) hn)]
theorem pk_nb (z : Int32) : narrow .byte (.int z.toInt8.toInt32) = .int z.toInt8.toInt32 := congrArg Value.int (by simp)
theorem pk_ns (z : Int32) : narrow .short (.int z.toInt16.toInt32) = .int z.toInt16.toInt32 := congrArg Value.int (by simp)
theorem pk_fb (r : Int32) : fits .byte (.int r.toInt8.toInt32) = true := by
  have ⟨a, b⟩ := lg_i2b_range r
  have h1 : (-128 : Int32).toInt = -128 := by decide
  have h2 : (127 : Int32).toInt = 127 := by decide
  simp only [fits, Bool.and_eq_true, decide_eq_true_eq, Int32.le_iff_toInt_le, h1, h2]
  omega
theorem pk_fs (r : Int32) : fits .short (.int r.toInt16.toInt32) = true := by
  have ⟨a, b⟩ := lg_i2s_range r
  have h1 : (-32768 : Int32).toInt = -32768 := by decide
  have h2 : (32767 : Int32).toInt = 32767 := by decide
  simp only [fits, Bool.and_eq_true, decide_eq_true_eq, Int32.le_iff_toInt_le, h1, h2]
  omega
theorem pk_charN {q : Nat} (hq : q < 65536) : narrow .char (.int (nI q)) = .int (nI q) ∧ fits .char (.int (nI q)) = true := by
  constructor
  · have e : (nI q).toUInt32.toUInt16.toUInt32.toInt32 = nI q := by
      apply Int32.toBitVec_inj.mp
      apply BitVec.eq_of_toNat_eq
      show (nI q).toUInt32.toUInt16.toUInt32.toNat = q % 2 ^ 32
      rw [UInt16.toNat_toUInt32, UInt32.toNat_toUInt16, show (nI q).toUInt32.toNat = q % 2 ^ 32 from rfl]
      omega
    exact congrArg Value.int e
  · have a : (0 : Int32) ≤ nI q := nI_pos' (by omega)
    have b : nI q ≤ 65535 := nI_le (b := 65535) (by omega) (by decide)
    show (decide ((0 : Int32) ≤ nI q) && decide (nI q ≤ 65535)) = true
    rw [decide_eq_true a, decide_eq_true b]
    rfl
theorem pk_char (x : Int32) : (x.toUInt32 % 65536).toInt32 = nI (x.toBitVec.toNat % 65536) := by
  apply Int32.toBitVec_inj.mp
  apply BitVec.eq_of_toNat_eq
  rw [pk_tn (by omega)]
  show (x.toUInt32 % 65536).toNat = _
  rw [UInt32.toNat_mod]
  rfl
theorem pk_nc (x : Int32) : narrow .char (.int (x.toUInt32 % 65536).toInt32) = .int (x.toUInt32 % 65536).toInt32 := by
  rw [pk_char]
  exact (pk_charN (Nat.mod_lt _ (by decide))).1
theorem pk_fc (x : Int32) : fits .char (.int (x.toUInt32 % 65536).toInt32) = true := by
  rw [pk_char]
  exact (pk_charN (Nat.mod_lt _ (by decide))).2
theorem pk_vb (z : Int32) : vp_nar .byte z.toInt8.toInt32 = z.toInt8.toInt32 := by rw [vp_nar_byte]; simp
theorem pk_vs (z : Int32) : vp_nar .short z.toInt16.toInt32 = z.toInt16.toInt32 := by rw [vp_nar_short]; simp
theorem pk_vc (z : Int32) : vp_nar .char (z.toUInt32 % 65536).toInt32 = (z.toUInt32 % 65536).toInt32 := Value.int.inj (pk_nc z)
/-! own facts on numbers -/
theorem mb_byte {v : Int32} (h1 : -128 ≤ v.toInt) (h2 : v.toInt < 128) : vp_nar .byte v.toInt8.toInt32 = v := by
  rw [pk_vb, lg_i2b_small h1 h2]
theorem mb_nI {a : Nat} (h : a < 128) : vp_nar .byte (nI a).toInt8.toInt32 = nI a :=
  mb_byte (by rw [nI_toInt (by omega)]; omega) (by rw [nI_toInt (by omega)]; omega)
theorem mb_nn {x : Int32} (h : 0 ≤ x) : x = nI x.toNatClampNeg := by
  obtain ⟨j, hj, rfl⟩ := nI_of (Int32.not_lt.mpr h)
  rw [nI_clamp hj]
theorem mb_np {x : Int32} (h : x.toInt ≤ 0) : x.toNatClampNeg = 0 := by
  show x.toInt.toNat = 0
  omega
theorem mb_updE {f : Nat → Int32} {k : Nat} : upd f k (f k) = f := by
  funext j
  by_cases h : j = k
  · rw [h]; exact pk_us
  · exact pk_un h
theorem mb_updU {f : Nat → Int32} {k : Nat} {x y : Int32} : upd (upd f k x) k y = upd f k y := by
  funext j
  by_cases h : j = k
  · rw [h, pk_us, pk_us]
  · rw [pk_un h, pk_un h, pk_un h]
end
section
/-! the search, abstract: ty (0 a choice, 1 once, 2 plain), w (ways), act, ok -/
/-- k ways from way d on, one behind another, until one cuts -/
def ss_ch {T : Type} (g : Nat → List T × Bool) : Nat → Nat → List T × Bool
  | 0, _ => ([], false)
  | k + 1, d => if (g d).2 = true then ((g d).1, true) else ((g d).1 ++ (ss_ch g k (d + 1)).1, (ss_ch g k (d + 1)).2)
def ss_then {T : Type} (r : List T × Bool) (L : List T) : List T := r.1 ++ (if r.2 = true then [] else L)
theorem ss_then_0 {T : Type} (L : List T) : ss_then ([], false) L = L := rfl
theorem ss_then_ch {T : Type} (g : Nat → List T × Bool) (k d : Nat) (L : List T) : ss_then (ss_ch g (k + 1) d) L = ss_then (g d) (ss_then (ss_ch g k (d + 1)) L) := by
  unfold ss_then
  rw [ss_ch]
  by_cases h : (g d).2 = true
  · rw [if_pos h, if_pos h]
    simp
  · rw [if_neg h, if_neg h]
    simp [List.append_assoc]
/-- answers from step i on, m steps left, and whether a once was passed -/
def ss_sol {T : Type} (ty w : Nat → Nat) (act : Nat → Nat → T → T) (ok : Nat → T → Bool) : Nat → Nat → T → List T × Bool
  | 0, _, V => ([V], false)
  | m + 1, i, V =>
    if ty i = 0 then ss_ch (fun d => ss_sol ty w act ok m (i + 1) (act i d V)) (w i) 0
    else if ty i = 1 then ((ss_sol ty w act ok m (i + 1) V).1, true)
    else if ok i V = true then ss_sol ty w act ok m (i + 1) (act i 0 V) else ([], false)
/-- the ways in the product -/
def ss_P (w : Nat → Nat) : Nat → Nat → Nat
  | 0, _ => 1
  | m + 1, i => w i * ss_P w m (i + 1)
def ss_w1 (w : Nat → Nat) (i : Nat) : Nat := if w i = 0 then 1 else w i
def ss_P1 (w : Nat → Nat) : Nat → Nat → Nat
  | 0, _ => 1
  | m + 1, i => ss_w1 w i * ss_P1 w m (i + 1)
/-- rounds that the steps from i on can take -/
def ss_cost (w : Nat → Nat) : Nat → Nat → Nat
  | 0, _ => 0
  | m + 1, i => 1 + w i * ss_cost w m (i + 1)
/-- the choices ahead of step i -/
def ss_cc (ty : Nat → Nat) : Nat → Nat
  | 0 => 0
  | i + 1 => ss_cc ty i + (if ty i = 0 then 1 else 0)
theorem ss_cc_mono (ty : Nat → Nat) {a b : Nat} (h : a ≤ b) : ss_cc ty a ≤ ss_cc ty b := by
  induction b with
  | zero => rw [Nat.le_zero.mp h]; exact Nat.le_refl _
  | succ b ih =>
    by_cases e : a = b + 1
    · rw [e]; exact Nat.le_refl _
    · exact Nat.le_trans (ih (by omega)) (Nat.le_add_right _ _)
/-- answers behind the pending choices: (step, next way, the variables before it) -/
def ss_rest {T : Type} (ty w : Nat → Nat) (act : Nat → Nat → T → T) (ok : Nat → T → Bool) (n : Nat) : List (Nat × Nat × T) → List T
  | [] => []
  | f :: S => ss_then (ss_ch (fun d => ss_sol ty w act ok (n - (f.1 + 1)) (f.1 + 1) (act f.1 d f.2.2)) (w f.1 - f.2.1) f.2.1) (ss_rest ty w act ok n S)
def ss_tot {T : Type} (ty w : Nat → Nat) (act : Nat → Nat → T → T) (ok : Nat → T → Bool) (n i : Nat) (V : T) (S : List (Nat × Nat × T)) : List T :=
  ss_then (ss_sol ty w act ok (n - i) i V) (ss_rest ty w act ok n S)
def ss_mu {T : Type} (w : Nat → Nat) (n : Nat) : List (Nat × Nat × T) → Nat
  | [] => 0
  | f :: S => (w f.1 - f.2.1) * ss_cost w (n - (f.1 + 1)) (f.1 + 1) + ss_mu w n S
def ss_push {T : Type} (w : Nat → Nat) (s d : Nat) (V : T) (S : List (Nat × Nat × T)) : List (Nat × Nat × T) :=
  if d = w s then S else (s, d, V) :: S
theorem ss_back {T : Type} (ty w : Nat → Nat) (act : Nat → Nat → T → T) (ok : Nat → T → Bool) (n s d : Nat) (V : T) (S : List (Nat × Nat × T)) (h : d < w s) :
    ss_rest ty w act ok n ((s, d, V) :: S) = ss_tot ty w act ok n (s + 1) (act s d V) (ss_push w s (d + 1) V S) := by
  obtain ⟨k, hk⟩ : ∃ k, w s - d = k + 1 := ⟨w s - d - 1, by omega⟩
  show ss_then (ss_ch (fun d => ss_sol ty w act ok (n - (s + 1)) (s + 1) (act s d V)) (w s - d) d) (ss_rest ty w act ok n S) = _
  rw [hk, ss_then_ch]
  unfold ss_tot ss_push
  by_cases e : d + 1 = w s
  · rw [if_pos e, show k = 0 by omega]
    rfl
  · rw [if_neg e, show k = w s - (d + 1) by omega]
    rfl
theorem ss_back_mu {T : Type} (w : Nat → Nat) (n s d : Nat) (V : T) (S : List (Nat × Nat × T)) (h : d < w s) :
    ss_cost w (n - (s + 1)) (s + 1) + ss_mu w n (ss_push w s (d + 1) V S) = ss_mu w n ((s, d, V) :: S) := by
  obtain ⟨k, hk⟩ : ∃ k, w s - d = k + 1 := ⟨w s - d - 1, by omega⟩
  show _ = (w s - d) * ss_cost w (n - (s + 1)) (s + 1) + ss_mu w n S
  rw [hk, Nat.add_mul, Nat.one_mul]
  unfold ss_push
  by_cases e : d + 1 = w s
  · rw [if_pos e, show k = 0 by omega]
    omega
  · rw [if_neg e]
    show _ + ((w s - (d + 1)) * ss_cost w (n - (s + 1)) (s + 1) + ss_mu w n S) = _
    rw [show w s - (d + 1) = k by omega]
    omega
/-- one step: what goes on, or none where it fails -/
def ss_step {T : Type} (ty w : Nat → Nat) (act : Nat → Nat → T → T) (ok : Nat → T → Bool) (i : Nat) (V : T) (S : List (Nat × Nat × T)) : Option (T × List (Nat × Nat × T)) :=
  if ty i = 0 then (if w i = 0 then none else some (act i 0 V, ss_push w i 1 V S))
  else if ty i = 1 then some (V, [])
  else if ok i V = true then some (act i 0 V, S) else none
theorem ss_step_some {T : Type} {ty w : Nat → Nat} {act : Nat → Nat → T → T} {ok : Nat → T → Bool} {n i : Nat} {V V' : T} {S S' : List (Nat × Nat × T)}
    (hw : ∀ j, ty j ≠ 0 → w j = 1) (hi : i < n) (h : ss_step ty w act ok i V S = some (V', S')) :
    ss_tot ty w act ok n i V S = ss_tot ty w act ok n (i + 1) V' S' ∧ ss_cost w (n - (i + 1)) (i + 1) + ss_mu w n S' + 1 ≤ ss_cost w (n - i) i + ss_mu w n S := by
  obtain ⟨m, hm⟩ : ∃ m, n - i = m + 1 := ⟨n - i - 1, by omega⟩
  have hm' : n - (i + 1) = m := by omega
  unfold ss_step at h
  by_cases t0 : ty i = 0
  · rw [if_pos t0] at h
    by_cases w0 : w i = 0
    · rw [if_pos w0] at h
      exact absurd h (by simp)
    · rw [if_neg w0] at h
      have e := Option.some.inj h
      have e1 : act i 0 V = V' := congrArg Prod.fst e
      have e2 : ss_push w i 1 V S = S' := congrArg Prod.snd e
      subst e1 e2
      have b := ss_back ty w act ok n i 0 V S (by omega)
      have bm := ss_back_mu w n i 0 V S (by omega)
      refine ⟨?_, ?_⟩
      · rw [← b]
        show ss_then (ss_sol ty w act ok (n - i) i V) _ = ss_then (ss_ch _ (w i - 0) 0) _
        rw [hm, ss_sol, if_pos t0, hm', Nat.sub_zero]
      · rw [bm, hm, ss_cost]
        show (w i - 0) * ss_cost w (n - (i + 1)) (i + 1) + ss_mu w n S + 1 ≤ _
        rw [hm', Nat.sub_zero]
        omega
  · rw [if_neg t0] at h
    by_cases t1 : ty i = 1
    · rw [if_pos t1] at h
      have e := Option.some.inj h
      have e1 : V = V' := congrArg Prod.fst e
      have e2 : [] = S' := congrArg Prod.snd e
      subst e1 e2
      refine ⟨?_, ?_⟩
      · unfold ss_tot
        rw [hm, ss_sol, if_neg t0, if_pos t1, hm']
        unfold ss_then
        rw [if_pos rfl]
        show _ ++ [] = _ ++ if _ then [] else []
        rw [ite_self]
      · rw [hm, hm', ss_cost, hw i t0]
        show _ + 0 + 1 ≤ _
        omega
    · rw [if_neg t1] at h
      by_cases o : ok i V = true
      · rw [if_pos o] at h
        have e := Option.some.inj h
        have e1 : act i 0 V = V' := congrArg Prod.fst e
        have e2 : S = S' := congrArg Prod.snd e
        subst e1 e2
        refine ⟨?_, ?_⟩
        · unfold ss_tot
          rw [hm, ss_sol, if_neg t0, if_neg t1, if_pos o, hm']
        · rw [hm, hm', ss_cost, hw i t0]
          omega
      · rw [if_neg o] at h
        exact absurd h (by simp)
theorem ss_step_none {T : Type} {ty w : Nat → Nat} {act : Nat → Nat → T → T} {ok : Nat → T → Bool} {n i : Nat} {V : T} {S : List (Nat × Nat × T)}
    (hi : i < n) (h : ss_step ty w act ok i V S = none) :
    ss_tot ty w act ok n i V S = ss_rest ty w act ok n S ∧ 1 ≤ ss_cost w (n - i) i := by
  obtain ⟨m, hm⟩ : ∃ m, n - i = m + 1 := ⟨n - i - 1, by omega⟩
  refine ⟨?_, by rw [hm, ss_cost]; omega⟩
  unfold ss_step at h
  unfold ss_tot
  rw [hm, ss_sol]
  by_cases t0 : ty i = 0
  · rw [if_pos t0] at h
    by_cases w0 : w i = 0
    · rw [if_pos t0, w0]
      rfl
    · rw [if_neg w0] at h
      exact absurd h (by simp)
  · rw [if_neg t0] at h
    by_cases t1 : ty i = 1
    · rw [if_pos t1] at h
      exact absurd h (by simp)
    · rw [if_neg t1] at h
      by_cases o : ok i V = true
      · rw [if_pos o] at h
        exact absurd h (by simp)
      · rw [if_neg t0, if_neg t1, if_neg o]
        rfl
theorem ss_tot_n {T : Type} (ty w : Nat → Nat) (act : Nat → Nat → T → T) (ok : Nat → T → Bool) (n : Nat) (V : T) (S : List (Nat × Nat × T)) :
    ss_tot ty w act ok n n V S = V :: ss_rest ty w act ok n S := by
  unfold ss_tot
  rw [Nat.sub_self]
  rfl
/-! bounds -/
theorem ss_P1_pos (w : Nat → Nat) : ∀ m i, 1 ≤ ss_P1 w m i := by
  intro m
  induction m with
  | zero => intro i; exact Nat.le_refl _
  | succ m ih =>
    intro i
    rw [ss_P1]
    refine Nat.mul_pos ?_ (ih _)
    unfold ss_w1
    split <;> omega
theorem ss_P_le (w : Nat → Nat) : ∀ m i, ss_P w m i ≤ ss_P1 w m i := by
  intro m
  induction m with
  | zero => intro i; exact Nat.le_refl _
  | succ m ih =>
    intro i
    rw [ss_P1, ss_P]
    refine Nat.mul_le_mul ?_ (ih _)
    unfold ss_w1
    split <;> omega
theorem ss_cost_le (w : Nat → Nat) : ∀ m i, ss_cost w m i ≤ m * ss_P1 w m i := by
  intro m
  induction m with
  | zero => intro i; exact Nat.zero_le _
  | succ m ih =>
    intro i
    rw [ss_cost, ss_P1, Nat.add_mul, Nat.one_mul, Nat.add_comm]
    have h1 : w i ≤ ss_w1 w i := by unfold ss_w1; split <;> omega
    have h2 : 1 ≤ ss_w1 w i := by unfold ss_w1; split <;> omega
    have h3 : w i * ss_cost w m (i + 1) ≤ ss_w1 w i * (m * ss_P1 w m (i + 1)) := Nat.mul_le_mul h1 (ih _)
    have h4 : ss_w1 w i * (m * ss_P1 w m (i + 1)) = m * (ss_w1 w i * ss_P1 w m (i + 1)) := Nat.mul_left_comm _ _ _
    have h5 : 1 ≤ ss_w1 w i * ss_P1 w m (i + 1) := Nat.mul_pos h2 (ss_P1_pos w m _)
    omega
theorem ss_P1_cc {ty w : Nat → Nat} (hw : ∀ j, ty j ≠ 0 → w j = 1) : ∀ m i, (∀ j, i ≤ j → j < i + m → w j ≤ 13) → ss_P1 w m i * 13 ^ ss_cc ty i ≤ 13 ^ ss_cc ty (i + m) := by
  intro m
  induction m with
  | zero => intro i _; rw [ss_P1, Nat.one_mul]; exact Nat.le_refl _
  | succ m ih =>
    intro i h
    have I := ih (i + 1) (fun j a b => h j (by omega) (by omega))
    rw [show i + 1 + m = i + (m + 1) by omega] at I
    refine Nat.le_trans ?_ I
    rw [ss_P1, ss_cc]
    by_cases t0 : ty i = 0
    · rw [if_pos t0, Nat.pow_succ, Nat.mul_comm (ss_w1 w i), Nat.mul_assoc, Nat.mul_comm (13 ^ _) 13]
      refine Nat.mul_le_mul_left _ (Nat.mul_le_mul_right _ ?_)
      have := h i (Nat.le_refl _) (by omega)
      unfold ss_w1
      split <;> omega
    · rw [if_neg t0, Nat.add_zero]
      refine Nat.mul_le_mul_right _ ?_
      have e : ss_w1 w i = 1 := by unfold ss_w1; rw [hw i t0]; rfl
      rw [e, Nat.one_mul]
      exact Nat.le_refl _
theorem ss_P1_2197 {ty w : Nat → Nat} (hw : ∀ j, ty j ≠ 0 → w j = 1) {n : Nat} (h : ∀ j, j < n → w j ≤ 13) (hc : ss_cc ty n ≤ 3) : ss_P1 w n 0 ≤ 2197 := by
  have I := ss_P1_cc hw n 0 (fun j _ b => h j (by omega))
  rw [Nat.zero_add, show ss_cc ty 0 = 0 from rfl, Nat.pow_zero, Nat.mul_one] at I
  exact Nat.le_trans I (Nat.le_trans (Nat.pow_le_pow_right (by decide) hc) (by decide))
theorem ss_ch_len {T : Type} (g : Nat → List T × Bool) (B : Nat) (h : ∀ d, (g d).1.length ≤ B) : ∀ k d, (ss_ch g k d).1.length ≤ k * B := by
  intro k
  induction k with
  | zero => intro d; exact Nat.zero_le _
  | succ k ih =>
    intro d
    rw [ss_ch, Nat.add_mul, Nat.one_mul]
    have a := h d
    have b := ih (d + 1)
    split
    · show (g d).1.length ≤ _
      omega
    · show ((g d).1 ++ _).length ≤ _
      rw [List.length_append]
      omega
theorem ss_len {T : Type} {ty w : Nat → Nat} {act : Nat → Nat → T → T} {ok : Nat → T → Bool} (hw : ∀ j, ty j ≠ 0 → w j = 1) :
    ∀ m i V, (ss_sol ty w act ok m i V).1.length ≤ ss_P w m i := by
  intro m
  induction m with
  | zero => intro i V; exact Nat.le_refl _
  | succ m ih =>
    intro i V
    rw [ss_sol, ss_P]
    by_cases t0 : ty i = 0
    · rw [if_pos t0]
      exact ss_ch_len _ _ (fun d => ih (i + 1) _) _ _
    · rw [if_neg t0, hw i t0, Nat.one_mul]
      by_cases t1 : ty i = 1
      · rw [if_pos t1]
        exact ih (i + 1) V
      · rw [if_neg t1]
        split
        · exact ih (i + 1) _
        · exact Nat.zero_le _
end
section
/-! the reference, abstract: one code after another, each carried out from the first step -/
def ss_mark (F : Nat → Int32) (i b : Nat) : Nat → Int32 := upd F i (if 0 ≤ F i then F i else nI b)
theorem ss_mark_ne {F : Nat → Int32} {i b j : Nat} (h : j ≠ i) : ss_mark F i b j = F j := pk_un h
theorem ss_mark_set {F : Nat → Int32} {i b : Nat} (h : 0 ≤ F i) : ss_mark F i b = F := by
  unfold ss_mark
  rw [if_pos h]
  exact mb_updE
theorem ss_mark_new {F : Nat → Int32} {i b : Nat} (h : F i = -1) : ss_mark F i b = upd F i (nI b) := by
  unfold ss_mark
  rw [if_neg (by rw [h]; decide)]
def ss_run {T : Type} (ty w : Nat → Nat) (act : Nat → Nat → T → T) (ok : Nat → T → Bool) : Nat → Nat → T → (Nat → Int32) → Nat → Bool × T × (Nat → Int32)
  | 0, _, V, F, _ => (true, V, F)
  | m + 1, i, V, F, c =>
    if ty i = 0 then ss_run ty w act ok m (i + 1) (act i (c / ss_P w m (i + 1) % w i) V) F c
    else if ty i = 1 then
      if ss_mark F i (c / ss_P w m (i + 1)) i = nI (c / ss_P w m (i + 1)) then ss_run ty w act ok m (i + 1) V (ss_mark F i (c / ss_P w m (i + 1))) c
      else (false, V, ss_mark F i (c / ss_P w m (i + 1)))
    else if ok i V = true then ss_run ty w act ok m (i + 1) (act i 0 V) F c else (false, V, F)
def ss_blk {T : Type} (ty w : Nat → Nat) (act : Nat → Nat → T → T) (ok : Nat → T → Bool) (m i : Nat) (V : T) : Nat → Nat → (Nat → Int32) → List T × (Nat → Int32)
  | 0, _, F => ([], F)
  | k + 1, c, F =>
    ((if (ss_run ty w act ok m i V F c).1 = true then [(ss_run ty w act ok m i V F c).2.1] else []) ++ (ss_blk ty w act ok m i V k (c + 1) (ss_run ty w act ok m i V F c).2.2).1,
     (ss_blk ty w act ok m i V k (c + 1) (ss_run ty w act ok m i V F c).2.2).2)
section
variable {T : Type} {ty w : Nat → Nat} {act : Nat → Nat → T → T} {ok : Nat → T → Bool}
theorem ss_run_lo {j : Nat} : ∀ (m i : Nat) (V : T) (F : Nat → Int32) (c : Nat), j < i → (ss_run ty w act ok m i V F c).2.2 j = F j := by
  intro m
  induction m with
  | zero => intro i V F c h; rfl
  | succ m ih =>
    intro i V F c h
    rw [ss_run]
    split
    · exact ih _ _ _ _ (by omega)
    · split
      · split
        · rw [ih _ _ _ _ (by omega)]
          exact ss_mark_ne (by omega)
        · exact ss_mark_ne (by omega)
      · split
        · exact ih _ _ _ _ (by omega)
        · rfl
theorem ss_mark_keep {F : Nat → Int32} {i b j : Nat} (h : 0 ≤ F j) : ss_mark F i b j = F j := by
  by_cases e : j = i
  · subst e
    rw [ss_mark_set h]
  · exact ss_mark_ne e
theorem ss_run_keep {j : Nat} : ∀ (m i : Nat) (V : T) (F : Nat → Int32) (c : Nat), 0 ≤ F j → (ss_run ty w act ok m i V F c).2.2 j = F j := by
  intro m
  induction m with
  | zero => intro i V F c h; rfl
  | succ m ih =>
    intro i V F c h
    rw [ss_run]
    split
    · exact ih _ _ _ _ h
    · split
      · split
        · rw [ih _ _ _ _ (by rw [ss_mark_keep h]; exact h)]
          exact ss_mark_keep h
        · exact ss_mark_keep h
      · split
        · exact ih _ _ _ _ h
        · rfl
theorem ss_run_dead {j e c : Nat} : ∀ (m i : Nat) (V : T) (F : Nat → Int32), i + m = e → i ≤ j → j < e → ty j = 1 → 0 ≤ F j → F j ≠ nI (c / ss_P w (e - (j + 1)) (j + 1)) →
    (ss_run ty w act ok m i V F c).1 = false := by
  intro m
  induction m with
  | zero => intro i V F h1 h2 h3; omega
  | succ m ih =>
    intro i V F h1 h2 h3 t F0 Fn
    by_cases e' : i = j
    · subst e'
      rw [show e - (i + 1) = m by omega] at Fn
      rw [ss_run, if_neg (by omega), if_pos t, ss_mark_set F0, if_neg Fn]
    · rw [ss_run]
      split
      · exact ih _ _ _ (by omega) (by omega) h3 t F0 Fn
      · split
        · split
          · exact ih _ _ _ (by omega) (by omega) h3 t (by rw [ss_mark_keep F0]; exact F0) (by rw [ss_mark_keep F0]; exact Fn)
          · rfl
        · split
          · exact ih _ _ _ (by omega) (by omega) h3 t F0 Fn
          · rfl
theorem ss_blk_lo {j m i : Nat} {V : T} (h : j < i) : ∀ (k c : Nat) (F : Nat → Int32), (ss_blk ty w act ok m i V k c F).2 j = F j := by
  intro k
  induction k with
  | zero => intro c F; rfl
  | succ k ih =>
    intro c F
    rw [ss_blk]
    show (ss_blk ty w act ok m i V k (c + 1) _).2 j = F j
    rw [ih]
    exact ss_run_lo _ _ _ _ _ h
theorem ss_blk_add {m i : Nat} {V : T} : ∀ (k l c : Nat) (F : Nat → Int32), ss_blk ty w act ok m i V (k + l) c F =
    ((ss_blk ty w act ok m i V k c F).1 ++ (ss_blk ty w act ok m i V l (c + k) (ss_blk ty w act ok m i V k c F).2).1, (ss_blk ty w act ok m i V l (c + k) (ss_blk ty w act ok m i V k c F).2).2) := by
  intro k
  induction k with
  | zero => intro l c F; rw [Nat.zero_add]; rfl
  | succ k ih =>
    intro l c F
    rw [show k + 1 + l = (k + l) + 1 by omega, ss_blk, ss_blk, ih, show c + 1 + k = c + (k + 1) by omega]
    simp only [List.append_assoc]
theorem ss_blk_dead {j e m i : Nat} {V : T} (hm : i + m = e) (hi : i ≤ j) (hj : j < e) (t : ty j = 1) : ∀ (k c : Nat) (F : Nat → Int32), 0 ≤ F j →
    (∀ c', c ≤ c' → c' < c + k → F j ≠ nI (c' / ss_P w (e - (j + 1)) (j + 1))) →
    (ss_blk ty w act ok m i V k c F).1 = [] ∧ (ss_blk ty w act ok m i V k c F).2 j = F j := by
  intro k
  induction k with
  | zero => intro c F _ _; exact ⟨rfl, rfl⟩
  | succ k ih =>
    intro c F F0 Fn
    have d := ss_run_dead (T := T) (w := w) (act := act) (ok := ok) m i V F hm hi hj t F0 (Fn c (Nat.le_refl _) (by omega))
    have kp := ss_run_keep (T := T) (ty := ty) (w := w) (act := act) (ok := ok) m i V F c F0
    have I := ih (c + 1) (ss_run ty w act ok m i V F c).2.2 (by rw [kp]; exact F0) (fun c' a b => by rw [kp]; exact Fn c' (by omega) (by omega))
    rw [ss_blk, d, if_neg (by decide)]
    exact ⟨I.1, I.2.trans kp⟩
theorem ss_blk_congr {m i m' i' : Nat} {V V' : T} (I : (Nat → Int32) → Prop) (lo hi : Nat)
    (h : ∀ c F, lo ≤ c → c < hi → I F → ss_run ty w act ok m i V F c = ss_run ty w act ok m' i' V' F c ∧ I (ss_run ty w act ok m' i' V' F c).2.2) :
    ∀ (k c : Nat) (F : Nat → Int32), lo ≤ c → c + k ≤ hi → I F → ss_blk ty w act ok m i V k c F = ss_blk ty w act ok m' i' V' k c F := by
  intro k
  induction k with
  | zero => intro c F _ _ _; rfl
  | succ k ih =>
    intro c F a b f
    obtain ⟨e, p⟩ := h c F a (by omega) f
    rw [ss_blk, ss_blk, e, ih (c + 1) _ (by omega) (by omega) p]
/-- where a block of codes has left its marks -/
def ss_post (ty w : Nat → Nat) (e i q z : Nat) (F : Nat → Int32) (cut : Bool) : Prop :=
  (cut = false → ∀ j, i ≤ j → j < e → F j = -1) ∧
  (cut = true → ∃ j p, i ≤ j ∧ j < e ∧ ty j = 1 ∧ F j = nI p ∧ q ≤ p * ss_P w (e - (j + 1)) (j + 1) ∧ (p + 1) * ss_P w (e - (j + 1)) (j + 1) ≤ z)
theorem ss_P_pos {e : Nat} : ∀ m i, i + m = e → (∀ j, i ≤ j → j < e → 0 < w j) → 0 < ss_P w m i := by
  intro m
  induction m with
  | zero => intro i _ _; exact Nat.one_pos
  | succ m ih =>
    intro i h hw
    rw [ss_P]
    exact Nat.mul_pos (hw i (Nat.le_refl _) (by omega)) (ih (i + 1) (by omega) (fun j a b => hw j (by omega) b))
theorem ss_main_ch {e N m i q : Nat} {V : T} (hN : N < 2 ^ 31) (hm : i + (m + 1) = e) (t0 : ty i = 0) (hp : ∀ j, i ≤ j → j < e → 0 < w j)
    (hq : (q + 1) * (w i * ss_P w m (i + 1)) ≤ N)
    (IH : ∀ (V : T) (F : Nat → Int32) (q : Nat), (∀ j, i + 1 ≤ j → j < e → F j = -1) → (q + 1) * ss_P w m (i + 1) ≤ N →
      (ss_blk ty w act ok m (i + 1) V (ss_P w m (i + 1)) (q * ss_P w m (i + 1)) F).1 = (ss_sol ty w act ok m (i + 1) V).1 ∧
      ss_post ty w e (i + 1) (q * ss_P w m (i + 1)) ((q + 1) * ss_P w m (i + 1)) (ss_blk ty w act ok m (i + 1) V (ss_P w m (i + 1)) (q * ss_P w m (i + 1)) F).2 (ss_sol ty w act ok m (i + 1) V).2) :
    ∀ (k d : Nat) (F : Nat → Int32), d + k = w i → (∀ j, i ≤ j → j < e → F j = -1) →
      (ss_blk ty w act ok (m + 1) i V (k * ss_P w m (i + 1)) ((q * w i + d) * ss_P w m (i + 1)) F).1 = (ss_ch (fun d => ss_sol ty w act ok m (i + 1) (act i d V)) k d).1 ∧
      ss_post ty w e i (q * (w i * ss_P w m (i + 1))) ((q + 1) * (w i * ss_P w m (i + 1))) (ss_blk ty w act ok (m + 1) i V (k * ss_P w m (i + 1)) ((q * w i + d) * ss_P w m (i + 1)) F).2 (ss_ch (fun d => ss_sol ty w act ok m (i + 1) (act i d V)) k d).2 := by
  have P0 : 0 < ss_P w m (i + 1) := ss_P_pos (e := e) m (i + 1) (by omega) (fun j a b => hp j (by omega) b)
  have hwi : 0 < w i := hp i (Nat.le_refl _) (by omega)
  have hE : (q + 1) * (w i * ss_P w m (i + 1)) = (q * w i + w i) * ss_P w m (i + 1) := by
    rw [← Nat.mul_assoc, Nat.add_mul, Nat.one_mul]
  have hE0 : q * (w i * ss_P w m (i + 1)) = (q * w i) * ss_P w m (i + 1) := (Nat.mul_assoc _ _ _).symm
  rw [hE] at hq ⊢
  rw [hE0]
  intro k
  induction k with
  | zero =>
    intro d F _ hF
    rw [Nat.zero_mul]
    exact ⟨rfl, fun _ => hF, fun z => absurd z (by simp [ss_ch])⟩
  | succ k ih =>
    intro d F hd hF
    have hdle : (q * w i + d + 1) * ss_P w m (i + 1) ≤ (q * w i + w i) * ss_P w m (i + 1) := Nat.mul_le_mul_right _ (by omega)
    obtain ⟨a1, a2⟩ := IH (act i d V) F (q * w i + d) (fun j a b => hF j (by omega) b) (Nat.le_trans hdle hq)
    have cg : ss_blk ty w act ok (m + 1) i V (ss_P w m (i + 1)) ((q * w i + d) * ss_P w m (i + 1)) F = ss_blk ty w act ok m (i + 1) (act i d V) (ss_P w m (i + 1)) ((q * w i + d) * ss_P w m (i + 1)) F := by
      refine ss_blk_congr (fun _ => True) ((q * w i + d) * ss_P w m (i + 1)) ((q * w i + d + 1) * ss_P w m (i + 1)) ?_ _ _ _ (Nat.le_refl _) ?_ trivial
      · intro c F' c1 c2 _
        refine ⟨?_, trivial⟩
        have hc : c / ss_P w m (i + 1) = q * w i + d := by
          refine Nat.le_antisymm (Nat.le_of_lt_succ ((Nat.div_lt_iff_lt_mul P0).mpr c2)) ((Nat.le_div_iff_mul_le P0).mpr c1)
        have hr : (q * w i + d) % w i = d := by
          rw [Nat.add_comm, Nat.add_mul_mod_self_right]
          exact Nat.mod_eq_of_lt (by omega)
        rw [ss_run, if_pos t0, hc, hr]
      · rw [Nat.add_mul _ 1, Nat.one_mul]
        exact Nat.le_refl _
    have lo : ∀ j, j < i + 1 → (ss_blk ty w act ok m (i + 1) (act i d V) (ss_P w m (i + 1)) ((q * w i + d) * ss_P w m (i + 1)) F).2 j = F j := fun j hj => ss_blk_lo hj _ _ _
    rw [Nat.add_mul k, Nat.one_mul, Nat.add_comm (k * _), ss_blk_add, cg]
    have nx : (q * w i + d) * ss_P w m (i + 1) + ss_P w m (i + 1) = (q * w i + (d + 1)) * ss_P w m (i + 1) := by
      rw [← Nat.add_assoc, Nat.add_mul _ 1, Nat.one_mul]
    rw [nx]
    generalize hR : ss_blk ty w act ok m (i + 1) (act i d V) (ss_P w m (i + 1)) ((q * w i + d) * ss_P w m (i + 1)) F = R at a1 a2 lo ⊢
    rw [ss_ch]
    by_cases ct : (ss_sol ty w act ok m (i + 1) (act i d V)).2 = true
    · rw [if_pos ct]
      obtain ⟨j, p, j1, j2, jt, jF, b1, b2⟩ := a2.2 ct
      have Pj0 : 0 < ss_P w (e - (j + 1)) (j + 1) := ss_P_pos (e := e) _ _ (by omega) (fun j' a b => hp j' (by omega) b)
      have pN : p < 2 ^ 31 := by
        have x1 : p + 1 ≤ (p + 1) * ss_P w (e - (j + 1)) (j + 1) := Nat.le_mul_of_pos_right _ Pj0
        omega
      have nN : (q * w i + (d + 1)) * ss_P w m (i + 1) + k * ss_P w m (i + 1) = (q * w i + w i) * ss_P w m (i + 1) := by
        rw [← Nat.add_mul]
        congr 1
        omega
      have D := ss_blk_dead (T := T) (w := w) (act := act) (ok := ok) (V := V) hm (by omega) j2 jt (k * ss_P w m (i + 1)) ((q * w i + (d + 1)) * ss_P w m (i + 1)) R.2 (by rw [jF]; exact nI_pos' pN) (by
        intro c c1 c2
        rw [jF]
        intro z
        have cd : c / ss_P w (e - (j + 1)) (j + 1) ≤ c := Nat.div_le_self _ _
        rw [nI_eq pN (by omega)] at z
        have x2 : p + 1 ≤ c / ss_P w (e - (j + 1)) (j + 1) := (Nat.le_div_iff_mul_le Pj0).mpr (by rw [← Nat.add_assoc] at c1; omega)
        omega)
      refine ⟨?_, fun z => absurd z (by simp), fun _ => ⟨j, p, by omega, j2, jt, D.2.trans jF, ?_, ?_⟩⟩
      · show R.1 ++ _ = (ss_sol ty w act ok m (i + 1) (act i d V)).1
        rw [D.1, List.append_nil, a1]
      · exact Nat.le_trans (Nat.mul_le_mul_right _ (by omega)) b1
      · exact Nat.le_trans b2 hdle
    · rw [if_neg ct]
      have nf : ∀ j, i ≤ j → j < e → R.2 j = -1 := by
        intro j ja jb
        by_cases ej : j = i
        · rw [lo j (by omega)]
          exact hF j ja jb
        · exact a2.1 (by simpa using ct) j (by omega) jb
      obtain ⟨r1, r2⟩ := ih (d + 1) R.2 (by omega) nf
      refine ⟨?_, r2⟩
      show R.1 ++ _ = _ ++ _
      rw [r1, a1]
theorem ss_main (hw : ∀ j, ty j ≠ 0 → w j = 1) {e N : Nat} (hN : N < 2 ^ 31) : ∀ (m i : Nat) (V : T) (F : Nat → Int32) (q : Nat), i + m = e → (∀ j, i ≤ j → j < e → 0 < w j) →
    (∀ j, i ≤ j → j < e → F j = -1) → (q + 1) * ss_P w m i ≤ N →
    (ss_blk ty w act ok m i V (ss_P w m i) (q * ss_P w m i) F).1 = (ss_sol ty w act ok m i V).1 ∧
    ss_post ty w e i (q * ss_P w m i) ((q + 1) * ss_P w m i) (ss_blk ty w act ok m i V (ss_P w m i) (q * ss_P w m i) F).2 (ss_sol ty w act ok m i V).2 := by
  intro m
  induction m with
  | zero =>
    intro i V F q h1 _ hF _
    refine ⟨rfl, fun _ => hF, fun z => absurd z (by simp [ss_sol])⟩
  | succ m ih =>
    intro i V F q hm hp hF hq
    have P0 : 0 < ss_P w m (i + 1) := ss_P_pos (e := e) m (i + 1) (by omega) (fun j a b => hp j (by omega) b)
    rw [ss_P] at hq ⊢
    rw [ss_sol]
    by_cases t0 : ty i = 0
    · rw [if_pos t0]
      have C := ss_main_ch (act := act) (ok := ok) (V := V) hN hm t0 hp hq (fun V F q a b => ih (i + 1) V F q (by omega) (fun j x y => hp j (by omega) y) a b) (w i) 0 F (by omega) hF
      rw [Nat.add_zero (q * w i), Nat.mul_assoc q] at C
      exact C
    · rw [if_neg t0]
      rw [hw i t0, Nat.one_mul] at hq ⊢
      have hc : ∀ c, q * ss_P w m (i + 1) ≤ c → c < (q + 1) * ss_P w m (i + 1) → c / ss_P w m (i + 1) = q := fun c c1 c2 =>
        Nat.le_antisymm (Nat.le_of_lt_succ ((Nat.div_lt_iff_lt_mul P0).mpr c2)) ((Nat.le_div_iff_mul_le P0).mpr c1)
      have qe : q * ss_P w m (i + 1) + ss_P w m (i + 1) ≤ (q + 1) * ss_P w m (i + 1) := by
        rw [Nat.add_mul, Nat.one_mul]
        exact Nat.le_refl _
      by_cases t1 : ty i = 1
      · rw [if_pos t1]
        have qN : q < 2 ^ 31 := by
          have x1 : q + 1 ≤ (q + 1) * ss_P w m (i + 1) := Nat.le_mul_of_pos_right _ P0
          omega
        have mk : ss_mark F i q = upd F i (nI q) := ss_mark_new (hF i (Nat.le_refl _) (by omega))
        have one : ∀ (F' : Nat → Int32) c, F' i = nI q → q * ss_P w m (i + 1) ≤ c → c < (q + 1) * ss_P w m (i + 1) → ss_run ty w act ok (m + 1) i V F' c = ss_run ty w act ok m (i + 1) V F' c := by
          intro F' c f c1 c2
          rw [ss_run, if_neg t0, if_pos t1, hc c c1 c2, ss_mark_set (by rw [f]; exact nI_pos' qN), if_pos f]
        have e1 : ss_blk ty w act ok (m + 1) i V (ss_P w m (i + 1)) (q * ss_P w m (i + 1)) F = ss_blk ty w act ok (m + 1) i V (ss_P w m (i + 1)) (q * ss_P w m (i + 1)) (upd F i (nI q)) := by
          obtain ⟨k, hk⟩ : ∃ k, ss_P w m (i + 1) = k + 1 := ⟨ss_P w m (i + 1) - 1, by omega⟩
          have e2 : ss_run ty w act ok (m + 1) i V F (q * ss_P w m (i + 1)) = ss_run ty w act ok (m + 1) i V (upd F i (nI q)) (q * ss_P w m (i + 1)) := by
            rw [one _ _ pk_us (Nat.le_refl _) (by omega), ss_run, if_neg t0, if_pos t1, hc _ (Nat.le_refl _) (by omega), mk, if_pos pk_us]
          rw [hk] at e2 ⊢
          rw [ss_blk, ss_blk, e2]
        have cg : ss_blk ty w act ok (m + 1) i V (ss_P w m (i + 1)) (q * ss_P w m (i + 1)) (upd F i (nI q)) = ss_blk ty w act ok m (i + 1) V (ss_P w m (i + 1)) (q * ss_P w m (i + 1)) (upd F i (nI q)) := by
          refine ss_blk_congr (fun F => F i = nI q) (q * ss_P w m (i + 1)) ((q + 1) * ss_P w m (i + 1)) ?_ _ _ _ (Nat.le_refl _) qe pk_us
          intro c F' c1 c2 f
          exact ⟨one F' c f c1 c2, (ss_run_lo _ _ _ _ _ (Nat.lt_succ_self i)).trans f⟩
        obtain ⟨a1, a2⟩ := ih (i + 1) V (upd F i (nI q)) q (by omega) (fun j x y => hp j (by omega) y) (fun j x y => (pk_un (by omega)).trans (hF j (by omega) y)) hq
        have lo := ss_blk_lo (T := T) (ty := ty) (w := w) (act := act) (ok := ok) (m := m) (V := V) (Nat.lt_succ_self i) (ss_P w m (i + 1)) (q * ss_P w m (i + 1)) (upd F i (nI q))
        rw [e1, cg]
        refine ⟨a1, fun z => absurd z (by simp), fun _ => ⟨i, q, Nat.le_refl _, by omega, t1, lo.trans pk_us, ?_, ?_⟩⟩
        · rw [show e - (i + 1) = m by omega]
          exact Nat.le_refl _
        · rw [show e - (i + 1) = m by omega]
          exact Nat.le_refl _
      · rw [if_neg t1]
        by_cases o : ok i V = true
        · rw [if_pos o]
          have cg : ss_blk ty w act ok (m + 1) i V (ss_P w m (i + 1)) (q * ss_P w m (i + 1)) F = ss_blk ty w act ok m (i + 1) (act i 0 V) (ss_P w m (i + 1)) (q * ss_P w m (i + 1)) F := by
            refine ss_blk_congr (fun _ => True) (q * ss_P w m (i + 1)) ((q + 1) * ss_P w m (i + 1)) ?_ _ _ _ (Nat.le_refl _) qe trivial
            intro c F' c1 c2 _
            exact ⟨by rw [ss_run, if_neg t0, if_neg t1, if_pos o], trivial⟩
          obtain ⟨a1, a2⟩ := ih (i + 1) (act i 0 V) F q (by omega) (fun j x y => hp j (by omega) y) (fun j x y => hF j (by omega) y) hq
          have lo := ss_blk_lo (T := T) (ty := ty) (w := w) (act := act) (ok := ok) (m := m) (V := act i 0 V) (Nat.lt_succ_self i) (ss_P w m (i + 1)) (q * ss_P w m (i + 1)) F
          rw [cg]
          refine ⟨a1, ?_, ?_⟩
          · intro z j ja jb
            by_cases ej : j = i
            · subst ej
              exact lo.trans (hF j ja jb)
            · exact a2.1 z j (by omega) jb
          · intro z
            obtain ⟨j, p, j1, rest⟩ := a2.2 z
            exact ⟨j, p, by omega, rest⟩
        · rw [if_neg o]
          have nl : ∀ (k c : Nat), ss_blk ty w act ok (m + 1) i V k c F = ([], F) := by
            intro k
            induction k with
            | zero => intro c; rfl
            | succ k ih2 =>
              intro c
              have r : ss_run ty w act ok (m + 1) i V F c = (false, V, F) := by rw [ss_run, if_neg t0, if_neg t1, if_neg o]
              rw [ss_blk, r]
              show ([] ++ (ss_blk ty w act ok (m + 1) i V k (c + 1) F).1, (ss_blk ty w act ok (m + 1) i V k (c + 1) F).2) = _
              rw [ih2]
              rfl
          rw [nl]
          exact ⟨rfl, fun _ => hF, fun z => absurd z (by simp)⟩
theorem ss_all (hw : ∀ j, ty j ≠ 0 → w j = 1) {n : Nat} (hN : ss_P w n 0 < 2 ^ 31) (V : T) (F : Nat → Int32) (hF : ∀ j, j < n → F j = -1) :
    (ss_blk ty w act ok n 0 V (ss_P w n 0) 0 F).1 = (ss_sol ty w act ok n 0 V).1 := by
  by_cases P0 : ss_P w n 0 = 0
  · have l := ss_len (act := act) (ok := ok) hw n 0 V
    rw [P0] at l ⊢
    exact (List.length_eq_zero_iff.mp (Nat.le_zero.mp l)).symm
  · have pos : ∀ m i, 0 < ss_P w m i → ∀ j, i ≤ j → j < i + m → 0 < w j := by
      intro m
      induction m with
      | zero => intro i _ j a b; omega
      | succ m ih =>
        intro i h j a b
        rw [ss_P] at h
        by_cases ej : j = i
        · subst ej
          exact Nat.pos_of_mul_pos_right h
        · exact ih (i + 1) (Nat.pos_of_mul_pos_left h) j (by omega) (by omega)
    have M := ss_main (act := act) (ok := ok) hw (e := n) hN n 0 V F 0 (Nat.zero_add n) (fun j a b => pos n 0 (Nat.pos_of_ne_zero P0) j a (by omega)) (fun j _ b => hF j b) (by rw [Nat.zero_add, Nat.one_mul]; exact Nat.le_refl _)
    rw [Nat.zero_mul] at M
    exact M.1
end
end
section
/-! the program: kinds K, firsts A, seconds B, thirds C -/
def sm_ty (K : Nat → Int32) (i : Nat) : Nat := if K i = 0 ∨ K i = 4 ∨ K i = 9 then 0 else if K i = 8 then 1 else 2
def sm_w (K B C : Nat → Int32) (i : Nat) : Nat := if K i = 0 then (C i - B i + 1).toNatClampNeg else if K i = 4 ∨ K i = 9 then 2 else 1
def sm_act (K A B : Nat → Int32) (i d : Nat) (V : Nat → Int32) : Nat → Int32 :=
  if K i = 0 then upd V (A i).toNatClampNeg (B i + nI d)
  else if K i = 1 then upd V (A i).toNatClampNeg (B i)
  else if K i = 2 then upd V (A i).toNatClampNeg (V (A i).toNatClampNeg + V (B i).toNatClampNeg)
  else if K i = 3 then upd V (A i).toNatClampNeg (V (A i).toNatClampNeg * V (B i).toNatClampNeg)
  else if K i = 4 then upd V (A i).toNatClampNeg (if d = 0 then V (B i).toNatClampNeg else V (A i).toNatClampNeg)
  else if K i = 9 then (if d = 0 then upd V (A i).toNatClampNeg (V (A i).toNatClampNeg + 1) else upd V (B i).toNatClampNeg (V (B i).toNatClampNeg + 1))
  else V
def sm_ok (K A B : Nat → Int32) (i : Nat) (V : Nat → Int32) : Bool :=
  if K i = 5 then decide (V (A i).toNatClampNeg < V (B i).toNatClampNeg)
  else if K i = 6 then decide (V (A i).toNatClampNeg = V (B i).toNatClampNeg)
  else if K i = 7 then decide (¬ V (A i).toNatClampNeg = V (B i).toNatClampNeg)
  else true
/-- a step as it is kept -/
def sm_wf (K A B C : Nat → Int32) (i : Nat) : Prop :=
  (∃ k, k ≤ 9 ∧ K i = nI k) ∧ (∃ a, a < 4 ∧ A i = nI a) ∧
  (K i = 0 → (-3 ≤ (B i).toInt ∧ (B i).toInt ≤ 9) ∧ (-3 ≤ (C i).toInt ∧ (C i).toInt ≤ 9)) ∧
  (¬ K i = 0 → ¬ K i = 1 → ∃ b, b < 4 ∧ B i = nI b)
theorem sm_hw (K B C : Nat → Int32) : ∀ j, sm_ty K j ≠ 0 → sm_w K B C j = 1 := by
  intro j h
  unfold sm_ty at h
  unfold sm_w
  by_cases c : K j = 0 ∨ K j = 4 ∨ K j = 9
  · rw [if_pos c] at h
    exact absurd rfl h
  · rw [if_neg (fun z => c (Or.inl z)), if_neg (fun z => c (Or.inr z))]
theorem sm_ty0 {K : Nat → Int32} {i : Nat} (h : K i = 0 ∨ K i = 4 ∨ K i = 9) : sm_ty K i = 0 := if_pos h
theorem sm_ty0' {K : Nat → Int32} {i : Nat} (h : sm_ty K i = 0) : K i = 0 ∨ K i = 4 ∨ K i = 9 := by
  unfold sm_ty at h
  by_cases c : K i = 0 ∨ K i = 4 ∨ K i = 9
  · exact c
  · rw [if_neg c] at h
    by_cases d : K i = 8
    · rw [if_pos d] at h; omega
    · rw [if_neg d] at h; omega
theorem sm_cas {K A B C : Nat → Int32} {i : Nat} (h : sm_wf K A B C i) : K i = 0 ∨ K i = 1 ∨ K i = 2 ∨ K i = 3 ∨ K i = 4 ∨ K i = 5 ∨ K i = 6 ∨ K i = 7 ∨ K i = 8 ∨ K i = 9 := by
  obtain ⟨k, hk, e⟩ := h.1
  rw [e]
  have : k = 0 ∨ k = 1 ∨ k = 2 ∨ k = 3 ∨ k = 4 ∨ k = 5 ∨ k = 6 ∨ k = 7 ∨ k = 8 ∨ k = 9 := by omega
  rcases this with rfl | rfl | rfl | rfl | rfl | rfl | rfl | rfl | rfl | rfl <;> decide
theorem sm_d1 {B C : Int32} (h1 : -3 ≤ B.toInt ∧ B.toInt ≤ 9) (h2 : -3 ≤ C.toInt ∧ C.toInt ≤ 9) : (C - B + 1).toInt = C.toInt - B.toInt + 1 := by
  have e1 : (C - B).toInt = C.toInt - B.toInt := by
    rw [Int32.toInt_sub]
    exact Int.bmod_eq_of_le (by omega) (by omega)
  rw [Int32.toInt_add, e1, show (1 : Int32).toInt = 1 by decide]
  exact Int.bmod_eq_of_le (by omega) (by omega)
theorem sm_w13 {K A B C : Nat → Int32} {i : Nat} (h : sm_wf K A B C i) : sm_w K B C i ≤ 13 := by
  unfold sm_w
  by_cases c : K i = 0
  · rw [if_pos c]
    obtain ⟨h1, h2⟩ := h.2.2.1 c
    have e := sm_d1 h1 h2
    show (C i - B i + 1).toInt.toNat ≤ 13
    rw [e]
    omega
  · rw [if_neg c]
    split <;> omega
theorem sm_wK0 {K B C : Nat → Int32} {i : Nat} (c : K i = 0) : sm_w K B C i = (C i - B i + 1).toNatClampNeg := if_pos c
theorem sm_wK2 {K B C : Nat → Int32} {i : Nat} (c : ¬ K i = 0) (t : K i = 4 ∨ K i = 9) : sm_w K B C i = 2 := by
  unfold sm_w
  rw [if_neg c, if_pos t]
theorem sm_wK1 {K B C : Nat → Int32} {i : Nat} (c : ¬ K i = 0) (t : ¬ (K i = 4 ∨ K i = 9)) : sm_w K B C i = 1 := by
  unfold sm_w
  rw [if_neg c, if_neg t]
/-- a program of n steps -/
def sm_W (n : Nat) (K A B C : Nat → Int32) : Prop := n ≤ 14 ∧ (∀ i, i < n → sm_wf K A B C i) ∧ ss_cc (sm_ty K) n ≤ 3
theorem sm_W_le {n m : Nat} {K A B C : Nat → Int32} (h : sm_W n K A B C) (hm : m ≤ n) : sm_W m K A B C :=
  ⟨Nat.le_trans hm h.1, fun i hi => h.2.1 i (by omega), Nat.le_trans (ss_cc_mono _ hm) h.2.2⟩
theorem sm_P1 {n : Nat} {K A B C : Nat → Int32} (h : sm_W n K A B C) : ss_P1 (sm_w K B C) n 0 ≤ 2197 :=
  ss_P1_2197 (sm_hw K B C) (fun j hj => sm_w13 (h.2.1 j hj)) h.2.2
theorem sm_P {n : Nat} {K A B C : Nat → Int32} (h : sm_W n K A B C) : ss_P (sm_w K B C) n 0 ≤ 2197 :=
  Nat.le_trans (ss_P_le _ _ _) (sm_P1 h)
theorem sm_cost {n : Nat} {K A B C : Nat → Int32} (h : sm_W n K A B C) : ss_cost (sm_w K B C) n 0 ≤ 30758 := by
  refine Nat.le_trans (ss_cost_le _ _ _) ?_
  exact Nat.le_trans (Nat.mul_le_mul h.1 (sm_P1 h)) (by decide)
/-- the answers -/
def sm_L (n : Nat) (K A B C : Nat → Int32) : List (Nat → Int32) := (ss_sol (sm_ty K) (sm_w K B C) (sm_act K A B) (sm_ok K A B) n 0 (fun _ => 0)).1
theorem sm_L_len {n : Nat} {K A B C : Nat → Int32} (h : sm_W n K A B C) : (sm_L n K A B C).length ≤ 2197 :=
  Nat.le_trans (ss_len (sm_hw K B C) n 0 _) (sm_P h)
/-- each act writes one variable or none -/
theorem sm_act_z {K A B C : Nat → Int32} {i : Nat} (h : sm_wf K A B C i) (d : Nat) {V : Nat → Int32} (hV : ∀ j, 4 ≤ j → V j = 0) : ∀ j, 4 ≤ j → sm_act K A B i d V j = 0 := by
  intro j hj
  obtain ⟨a, ha, eA⟩ := h.2.1
  have ca : (A i).toNatClampNeg = a := by rw [eA]; exact nI_clamp (by omega)
  unfold sm_act
  rw [ca]
  have u : ∀ x, upd V a x j = 0 := fun x => (pk_un (by omega)).trans (hV j hj)
  by_cases c0 : K i = 0
  · rw [if_pos c0]; exact u _
  rw [if_neg c0]
  by_cases c1 : K i = 1
  · rw [if_pos c1]; exact u _
  rw [if_neg c1]
  by_cases c2 : K i = 2
  · rw [if_pos c2]; exact u _
  rw [if_neg c2]
  by_cases c3 : K i = 3
  · rw [if_pos c3]; exact u _
  rw [if_neg c3]
  by_cases c4 : K i = 4
  · rw [if_pos c4]; exact u _
  rw [if_neg c4]
  by_cases c9 : K i = 9
  · rw [if_pos c9]
    obtain ⟨b, hb, eB⟩ := h.2.2.2 c0 c1
    have cb : (B i).toNatClampNeg = b := by rw [eB]; exact nI_clamp (by omega)
    rw [cb]
    split
    · exact u _
    · exact (pk_un (by omega)).trans (hV j hj)
  · rw [if_neg c9]; exact hV j hj
end
section
/-! the component: the trail, the ways of a step -/
section
variable {fs fa fe ft fo : Int32} {K A B C V tv tx os ow ot : Nat → Int32}
theorem mx_assign {post : SX → Prop} {a t : Nat} {x : Int32} (ha : a < 4) (ht : t < 16)
    (h : post (fs, fa, fe, nI (t + 1), fo, K, A, B, C, upd V a x, upd tv t (nI a), upd tx t (V a), os, ow, ot)) :
    wpX_assign post (fs, fa, fe, nI t, fo, K, A, B, C, V, tv, tx, os, ow, ot) (nI a) x := by
  have ct : (nI t).toNatClampNeg = t := nI_clamp (by omega)
  have ca : (nI a).toNatClampNeg = a := nI_clamp (by omega)
  have it : vp_in (nI t) 16 := vp_in_nI ht (by omega)
  have ia : vp_in (nI a) 4 := vp_in_nI ha (by omega)
  exact ⟨it, nm_r (e' := upd tv t (nI a)) (by rw [ct, mb_nI (by omega)]) ⟨ia, it, nm_r (e' := upd tx t (V a)) (by rw [ct, ca]) (nm_r (nI_1 t) ⟨ia, nm_r (e' := upd V a x) (by rw [ca]) h⟩)⟩⟩
/-- k entries of the trail above b taken back -/
def mx_un (tv tx : Nat → Int32) (b : Nat) : Nat → (Nat → Int32) → (Nat → Int32)
  | 0, V => V
  | k + 1, V => mx_un tv tx b k (upd V (tv (b + k)).toNatClampNeg (tx (b + k)))
theorem mx_undo0 {post : SX → Prop} {b : Nat} : ∀ (k : Nat) (V : Nat → Int32) (n : Nat), k < n → b + k ≤ 16 → (∀ j, j < b + k → ∃ a, a < 4 ∧ tv j = nI a) →
    post (fs, fa, fe, nI b, fo, K, A, B, C, mx_un tv tx b k V, tv, tx, os, ow, ot) → wX_undoTo_0 post (nI b) fs fa fe fo n (nI (b + k)) K A B C V tv tx os ow ot := by
  intro k
  induction k with
  | zero =>
    intro V n hn hk ht h
    obtain ⟨n, rfl⟩ : ∃ m, n = m + 1 := ⟨n - 1, by omega⟩
    exact br_t (nI_le (Nat.le_refl _) (by omega)) h
  | succ k ih =>
    intro V n hn hk ht h
    obtain ⟨n, rfl⟩ : ∃ m, n = m + 1 := ⟨n - 1, by omega⟩
    have cb : (nI (b + k)).toNatClampNeg = b + k := nI_clamp (by omega)
    have ib : vp_in (nI (b + k)) 16 := vp_in_nI (by omega) (by omega)
    obtain ⟨a, ha, ea⟩ := ht (b + k) (by omega)
    refine br_f (nI_ge (by omega) (by omega)) (nm_r (nI_pred (b + k)) ⟨ib, ib, ?_, nm_r (e' := upd V (tv (b + k)).toNatClampNeg (tx (b + k))) (by rw [cb]) ?_⟩)
    · rw [cb, ea]
      exact vp_in_nI ha (by omega)
    · exact ih _ n (by omega) (by omega) (fun j hj => ht j (by omega)) h
theorem mx_undo {post : SX → Prop} {b t : Nat} {x : Int32} (hx : x = nI b) (hb : b ≤ t) (ht : t ≤ 16) (hv : ∀ j, j < t → ∃ a, a < 4 ∧ tv j = nI a)
    (h : post (fs, fa, fe, nI b, fo, K, A, B, C, mx_un tv tx b (t - b) V, tv, tx, os, ow, ot)) : wpX_undoTo post (fs, fa, fe, nI t, fo, K, A, B, C, V, tv, tx, os, ow, ot) x := by
  obtain ⟨k, rfl⟩ : ∃ k, t = b + k := ⟨t - b, by omega⟩
  rw [Nat.add_sub_cancel_left] at h
  subst hx
  exact ⟨k + 1, mx_undo0 k V (k + 1) (Nat.lt_succ_self k) ht hv h⟩
theorem mx_un_congr {tv' tx' : Nat → Int32} {b : Nat} : ∀ (k : Nat) (V : Nat → Int32), (∀ j, j < b + k → tv' j = tv j ∧ tx' j = tx j) → mx_un tv' tx' b k V = mx_un tv tx b k V := by
  intro k
  induction k with
  | zero => intro V _; rfl
  | succ k ih =>
    intro V h
    rw [mx_un, mx_un, (h (b + k) (by omega)).1, (h (b + k) (by omega)).2]
    exact ih _ (fun j hj => h j (by omega))
theorem mx_un_z {b : Nat} : ∀ (k : Nat) (V : Nat → Int32), (∀ j, j < b + k → ∃ a, a < 4 ∧ tv j = nI a) → (∀ j, 4 ≤ j → V j = 0) → ∀ j, 4 ≤ j → mx_un tv tx b k V j = 0 := by
  intro k
  induction k with
  | zero => intro V _ hV; exact hV
  | succ k ih =>
    intro V h hV
    rw [mx_un]
    refine ih _ (fun j hj => h j (by omega)) (fun j hj => ?_)
    obtain ⟨a, ha, ea⟩ := h (b + k) (by omega)
    rw [ea, nI_clamp (by omega)]
    exact (pk_un (by omega)).trans (hV j hj)
theorem mx_ways {post : Int32 → Prop} {i : Nat} (hi : i < 14) (hc : sm_ty K i = 0) (h : post (nI (sm_w K B C i))) : wpX_waysOf post (fs, fa, fe, ft, fo, K, A, B, C, V, tv, tx, os, ow, ot) (nI i) := by
  have ci : (nI i).toNatClampNeg = i := nI_clamp (by omega)
  have ii : vp_in (nI i) 14 := vp_in_nI hi (by omega)
  unfold wpX_waysOf
  dsimp only
  rw [ci]
  refine ⟨ii, br_c (fun c => ⟨ii, ii, nm_e ?_⟩) (fun c => ?_)⟩
  · rw [sm_wK0 c] at h
    refine br_c (fun p => ?_) (fun p => ?_)
    · rw [mb_nn p]; exact h
    · rw [mb_np (by rw [Int32.le_iff_toInt_le] at p; have : (0 : Int32).toInt = 0 := by decide
                    omega)] at h
      exact h
  · rw [sm_wK2 c ((sm_ty0' hc).resolve_left c)] at h
    exact h
theorem mx_chooses {post : Int32 → Prop} {i : Nat} (h1 : sm_ty K i = 0 → post 1) (h0 : sm_ty K i ≠ 0 → post 0) : wpX_chooses post (K i) := by
  refine br_c (fun c => h1 (sm_ty0 (Or.inl c))) (fun c0 => br_c (fun c => h1 (sm_ty0 (Or.inr (Or.inl c)))) (fun c4 => br_c (fun c => h1 (sm_ty0 (Or.inr (Or.inr c)))) (fun c9 => h0 (fun z => ?_))))
  rcases sm_ty0' z with c | c | c
  · exact c0 c
  · exact c4 c
  · exact c9 c
theorem mx_take {i d t : Nat} (hi : i < 14) (ht : t < 16) (wf : sm_wf K A B C i) (hc : sm_ty K i = 0) (hd : d < 128) :
    ∃ (a : Nat) (x : Int32), a < 4 ∧ sm_act K A B i d V = upd V a x ∧ ∀ post : SX → Prop, post (fs, fa, fe, nI (t + 1), fo, K, A, B, C, upd V a x, upd tv t (nI a), upd tx t (V a), os, ow, ot) →
      wpX_takeWay post (fs, fa, fe, nI t, fo, K, A, B, C, V, tv, tx, os, ow, ot) (nI i) (nI d) := by
  have ci : (nI i).toNatClampNeg = i := nI_clamp (by omega)
  have ii : vp_in (nI i) 14 := vp_in_nI hi (by omega)
  obtain ⟨a, ha, eA⟩ := wf.2.1
  have ca : (nI a).toNatClampNeg = a := nI_clamp (by omega)
  have ia : vp_in (nI a) 4 := vp_in_nI ha (by omega)
  have eA' : A (nI i).toNatClampNeg = nI a := by rw [ci, eA]
  have eK : K (nI i).toNatClampNeg = K i := by rw [ci]
  have eB : B (nI i).toNatClampNeg = B i := by rw [ci]
  by_cases c0 : K i = 0
  · refine ⟨a, B i + nI d, ha, by unfold sm_act; rw [if_pos c0, eA, ca], fun post h => ?_⟩
    exact ⟨ii, nm_r eA' ⟨ii, nm_r eB ⟨ii, br_t (eK.trans c0) (mx_assign ha ht h)⟩⟩⟩
  · have c1 : ¬ K i = 1 := by
      rcases sm_ty0' hc with c | c | c
      · exact absurd c c0
      · rw [c]; decide
      · rw [c]; decide
    obtain ⟨b, hb, eb⟩ := wf.2.2.2 c0 c1
    have cb : (nI b).toNatClampNeg = b := nI_clamp (by omega)
    have ib : vp_in (nI b) 4 := vp_in_nI hb (by omega)
    have eB' : B (nI i).toNatClampNeg = nI b := eB.trans eb
    have n0 : ¬ K (nI i).toNatClampNeg = 0 := by rw [ci]; exact c0
    by_cases c4 : K i = 4
    · have ac : sm_act K A B i d V = upd V a (if d = 0 then V b else V a) := by
        unfold sm_act
        rw [if_neg c0, if_neg c1, if_neg (by rw [c4]; decide), if_neg (by rw [c4]; decide), if_pos c4, eA, eb, ca, cb]
      by_cases d0 : d = 0
      · rw [if_pos d0] at ac
        refine ⟨a, V b, ha, ac, fun post h => ?_⟩
        refine ⟨ii, nm_r eA' ⟨ii, nm_r eB' ⟨ii, br_f n0 ⟨ii, br_t (eK.trans c4) (br_t (by rw [d0]; rfl) ⟨ib, ?_⟩)⟩⟩⟩⟩
        rw [cb]
        exact mx_assign ha ht h
      · rw [if_neg d0] at ac
        refine ⟨a, V a, ha, ac, fun post h => ?_⟩
        refine ⟨ii, nm_r eA' ⟨ii, nm_r eB' ⟨ii, br_f n0 ⟨ii, br_t (eK.trans c4) (br_f (nI_ne0 (by omega) (by omega)) ⟨ia, ?_⟩)⟩⟩⟩⟩
        rw [ca]
        exact mx_assign ha ht h
    · have c9 : K i = 9 := ((sm_ty0' hc).resolve_left c0).resolve_left c4
      have n4 : ¬ K (nI i).toNatClampNeg = 4 := by rw [ci]; exact c4
      have ac : sm_act K A B i d V = if d = 0 then upd V a (V a + 1) else upd V b (V b + 1) := by
        unfold sm_act
        rw [if_neg c0, if_neg c1, if_neg (by rw [c9]; decide), if_neg (by rw [c9]; decide), if_neg c4, if_pos c9, eA, eb, ca, cb]
      by_cases d0 : d = 0
      · rw [if_pos d0] at ac
        refine ⟨a, V a + 1, ha, ac, fun post h => ?_⟩
        refine ⟨ii, nm_r eA' ⟨ii, nm_r eB' ⟨ii, br_f n0 ⟨ii, br_f n4 (br_t (by rw [d0]; rfl) ⟨ia, ?_⟩)⟩⟩⟩⟩
        rw [ca]
        exact mx_assign ha ht h
      · rw [if_neg d0] at ac
        refine ⟨b, V b + 1, hb, ac, fun post h => ?_⟩
        refine ⟨ii, nm_r eA' ⟨ii, nm_r eB' ⟨ii, br_f n0 ⟨ii, br_f n4 (br_f (nI_ne0 (by omega) (by omega)) ⟨ib, ?_⟩)⟩⟩⟩⟩
        rw [cb]
        exact mx_assign hb ht h
end
end
section
/-! the component's machine against the abstract search -/
/-- the pending choices S, o of them, as the arrays hold them, with t entries on the trail and the variables V -/
def mx_Rep (n : Nat) (K B C tv tx os ow ot : Nat → Int32) : List (Nat × Nat × (Nat → Int32)) → Nat → Nat → (Nat → Int32) → Prop
  | [], o, _, _ => o = 0
  | f :: S, o, t, V => ∃ o' b, o = o' + 1 ∧ os o' = nI f.1 ∧ ow o' = nI f.2.1 ∧ ot o' = nI b ∧ b ≤ t ∧ b ≤ f.1 ∧ f.1 < n ∧ sm_ty K f.1 = 0 ∧
      f.2.1 < sm_w K B C f.1 ∧ o' ≤ ss_cc (sm_ty K) f.1 ∧ mx_un tv tx b (t - b) V = f.2.2 ∧ mx_Rep n K B C tv tx os ow ot S o' b f.2.2
def mx_I (n s : Nat) (K A B C : Nat → Int32) (i : Nat) (V : Nat → Int32) (S : List (Nat × Nat × (Nat → Int32))) (u : SX) : Prop :=
  ∃ (t o : Nat) (tv tx os ow ot : Nat → Int32), u = (nI s, nI i, nI n, nI t, nI o, K, A, B, C, V, tv, tx, os, ow, ot) ∧ t ≤ i ∧ i ≤ n ∧ o ≤ ss_cc (sm_ty K) i ∧
    (∀ j, j < t → ∃ a, a < 4 ∧ tv j = nI a) ∧ (∀ j, 4 ≤ j → V j = 0) ∧ mx_Rep n K B C tv tx os ow ot S o t V
def mx_Fr (s : Nat) (K A B C : Nat → Int32) (u : SX) : Prop :=
  ∃ (fa fe ft fo : Int32) (V tv tx os ow ot : Nat → Int32), u = (nI s, fa, fe, ft, fo, K, A, B, C, V, tv, tx, os, ow, ot) ∧ (∀ j, 4 ≤ j → V j = 0)
theorem mx_I_Fr {n s : Nat} {K A B C : Nat → Int32} {i : Nat} {V : Nat → Int32} {S : List (Nat × Nat × (Nat → Int32))} {u : SX} (h : mx_I n s K A B C i V S u) : mx_Fr s K A B C u := by
  obtain ⟨t, o, tv, tx, os, ow, ot, e, _, _, _, _, z, _⟩ := h
  exact ⟨_, _, _, _, _, _, _, _, _, _, e, z⟩
section
variable {n s : Nat} {K A B C : Nat → Int32}
theorem mx_Rep_congr {tv tx os ow ot tv' tx' os' ow' ot' : Nat → Int32} : ∀ (S : List (Nat × Nat × (Nat → Int32))) (o t : Nat) (V : Nat → Int32), mx_Rep n K B C tv tx os ow ot S o t V →
    (∀ j, j < t → tv' j = tv j ∧ tx' j = tx j) → (∀ j, j < o → os' j = os j ∧ ow' j = ow j ∧ ot' j = ot j) → mx_Rep n K B C tv' tx' os' ow' ot' S o t V := by
  intro S
  induction S with
  | nil => intro o t V h _ _; exact h
  | cons f S ih =>
    intro o t V h ht ho
    obtain ⟨o', b, e, e1, e2, e3, h1, h2, h3, h4, h5, h6, h7, h8⟩ := h
    obtain ⟨q1, q2, q3⟩ := ho o' (by omega)
    refine ⟨o', b, e, q1.trans e1, q2.trans e2, q3.trans e3, h1, h2, h3, h4, h5, h6, ?_, ih o' b _ h8 (fun j hj => ht j (by omega)) (fun j hj => ho j (by omega))⟩
    rw [mx_un_congr (t - b) V (fun j hj => ht j (by omega))]
    exact h7
theorem mx_un_asg {tv tx V : Nat → Int32} {b t a : Nat} {x : Int32} (ha : a < 4) (hb : b ≤ t) :
    mx_un (upd tv t (nI a)) (upd tx t (V a)) b (t + 1 - b) (upd V a x) = mx_un tv tx b (t - b) V := by
  rw [show t + 1 - b = (t - b) + 1 by omega, mx_un, show b + (t - b) = t by omega, pk_us, pk_us, nI_clamp (by omega), mb_updU, mb_updE]
  exact mx_un_congr _ _ (fun j hj => ⟨pk_un (by omega), pk_un (by omega)⟩)
theorem mx_Rep_asg {tv tx os ow ot : Nat → Int32} {S : List (Nat × Nat × (Nat → Int32))} {o t a : Nat} {V : Nat → Int32} {x : Int32} (ha : a < 4) (h : mx_Rep n K B C tv tx os ow ot S o t V) :
    mx_Rep n K B C (upd tv t (nI a)) (upd tx t (V a)) os ow ot S o (t + 1) (upd V a x) := by
  cases S with
  | nil => exact h
  | cons f S =>
    obtain ⟨o', b, e, e1, e2, e3, h1, h2, h3, h4, h5, h6, h7, h8⟩ := h
    refine ⟨o', b, e, e1, e2, e3, by omega, h2, h3, h4, h5, h6, (mx_un_asg ha h1).trans h7, mx_Rep_congr S o' b _ h8 (fun j hj => ⟨pk_un (by omega), pk_un (by omega)⟩) (fun j hj => ⟨rfl, rfl, rfl⟩)⟩
/-- a trail entry more -/
theorem mx_tv_asg {tv : Nat → Int32} {t a : Nat} (ha : a < 4) (h : ∀ j, j < t → ∃ a, a < 4 ∧ tv j = nI a) : ∀ j, j < t + 1 → ∃ a', a' < 4 ∧ upd tv t (nI a) j = nI a' := by
  intro j hj
  by_cases e : j = t
  · subst e
    exact ⟨a, ha, pk_us⟩
  · obtain ⟨a', h1, h2⟩ := h j (by omega)
    exact ⟨a', h1, (pk_un e).trans h2⟩
theorem mx_V_asg {V : Nat → Int32} {a : Nat} {x : Int32} (ha : a < 4) (h : ∀ j, 4 ≤ j → V j = 0) : ∀ j, 4 ≤ j → upd V a x j = 0 :=
  fun j hj => (pk_un (by omega)).trans (h j hj)
/-- behind an assign the same pending choices stand, and a step further on -/
theorem mx_I_asg {i t o a : Nat} {x : Int32} {V V' tv tx os ow ot : Nat → Int32} {S : List (Nat × Nat × (Nat → Int32))} (e : V' = upd V a x) (ha : a < 4) (ht : t ≤ i) (hi : i < n) (ho : o ≤ ss_cc (sm_ty K) (i + 1))
    (hv : ∀ j, j < t → ∃ a, a < 4 ∧ tv j = nI a) (hz : ∀ j, 4 ≤ j → V j = 0) (h : mx_Rep n K B C tv tx os ow ot S o t V) :
    mx_I n s K A B C (i + 1) V' S (nI s, nI (i + 1), nI n, nI (t + 1), nI o, K, A, B, C, upd V a x, upd tv t (nI a), upd tx t (V a), os, ow, ot) := by
  subst e
  exact ⟨t + 1, o, _, _, _, _, _, rfl, by omega, by omega, ho, mx_tv_asg ha hv, mx_V_asg ha hz, mx_Rep_asg ha h⟩
theorem mx_cc_lt {i : Nat} (hW : sm_W n K A B C) (hi : i < n) (h : sm_ty K i = 0) : ss_cc (sm_ty K) i < 3 := by
  have a := ss_cc_mono (sm_ty K) (show i + 1 ≤ n from hi)
  rw [ss_cc, if_pos h] at a
  have := hW.2.2
  omega
theorem mx_cc_s {i : Nat} (h : sm_ty K i = 0) : ss_cc (sm_ty K) (i + 1) = ss_cc (sm_ty K) i + 1 := by rw [ss_cc, if_pos h]
theorem mx_goBack (hW : sm_W n K A B C) {i : Nat} {V : Nat → Int32} {S : List (Nat × Nat × (Nat → Int32))} {u : SX} (h : mx_I n s K A B C i V S u) {post : Int32 → SX → Prop}
    (h0 : S = [] → post 0 u)
    (h1 : ∀ f S', S = f :: S' → f.2.1 < sm_w K B C f.1 → f.1 < n → ∀ u', mx_I n s K A B C (f.1 + 1) (sm_act K A B f.1 f.2.1 f.2.2) (ss_push (sm_w K B C) f.1 (f.2.1 + 1) f.2.2 S') u' → post 1 u') :
    wpX_goBack post u := by
  obtain ⟨t, o, tv, tx, os, ow, ot, rfl, ti, il, oc, hv, hz, R⟩ := h
  have hn := hW.1
  cases S with
  | nil =>
    have R' : o = 0 := R
    subst R'
    exact br_t rfl (h0 rfl)
  | cons f S =>
    obtain ⟨o', b, e, e1, e2, e3, b1, b2, b3, b4, b5, b6, b7, b8⟩ := R
    subst e
    obtain ⟨p, d, V'⟩ := f
    dsimp only at e1 e2 b2 b3 b4 b5 b6 b7 b8
    have cl := mx_cc_lt hW b3 b4
    have d13 := sm_w13 (hW.2.1 p b3)
    have co : (nI o').toNatClampNeg = o' := nI_clamp (by omega)
    have io : vp_in (nI o') 4 := vp_in_nI (by omega) (by omega)
    have zV' : ∀ j, 4 ≤ j → V' j = 0 := by rw [← b7]; exact mx_un_z _ _ (fun j hj => hv j (by omega)) hz
    have hv' : ∀ j, j < b → ∃ a, a < 4 ∧ tv j = nI a := fun j hj => hv j (by omega)
    refine br_f (nI_ne0 (by omega) (by omega)) (nm_r (nI_pred o') ⟨io, ?_⟩)
    refine mx_undo (b := b) (by rw [co]; exact e3) b1 (by omega) hv ?_
    rw [b7]
    refine ⟨io, nm_r (e' := nI p) (by rw [co]; exact e1) ⟨io, nm_r (e' := nI d) (by rw [co]; exact e2) ⟨io, io, nm_r (e' := upd ow o' (nI (d + 1))) (by rw [co, e2, nI_1, mb_nI (by omega)]) ⟨io, ?_⟩⟩⟩⟩
    refine mx_ways (by omega) b4 ?_
    rw [co, pk_us]
    obtain ⟨a, x, ha, eact, T⟩ := mx_take (fs := nI s) (fa := nI i) (fe := nI n) (fo := nI (o' + 1)) (V := V') (tv := tv) (tx := tx) (os := os) (ow := upd ow o' (nI (d + 1))) (ot := ot) (show p < 14 by omega) (show b < 16 by omega) (hW.2.1 p b3) b4 (show d < 128 by omega)
    obtain ⟨a', x', ha', eact', T'⟩ := mx_take (fs := nI s) (fa := nI i) (fe := nI n) (fo := nI o') (V := V') (tv := tv) (tx := tx) (os := os) (ow := upd ow o' (nI (d + 1))) (ot := ot) (show p < 14 by omega) (show b < 16 by omega) (hW.2.1 p b3) b4 (show d < 128 by omega)
    by_cases ed : d + 1 = sm_w K B C p
    · refine br_t (by rw [ed]) (nm_r (nI_pred o') ?_)
      refine T' _ (nm_r (nI_1 p) ?_)
      refine h1 (p, d, V') S rfl b5 b3 _ ?_
      show mx_I n s K A B C (p + 1) (sm_act K A B p d V') (ss_push (sm_w K B C) p (d + 1) V' S) _
      rw [show ss_push (sm_w K B C) p (d + 1) V' S = S from if_pos ed]
      exact mx_I_asg eact' ha' b2 b3 (by rw [mx_cc_s b4]; omega) hv' zV' (mx_Rep_congr S o' b V' b8 (fun j _ => ⟨rfl, rfl⟩) (fun j hj => ⟨rfl, pk_un (by omega), rfl⟩))
    · refine br_f (fun z => ed ((nI_eq (by omega) (by omega)).mp z)) ?_
      refine T _ (nm_r (nI_1 p) ?_)
      refine h1 (p, d, V') S rfl b5 b3 _ ?_
      show mx_I n s K A B C (p + 1) (sm_act K A B p d V') (ss_push (sm_w K B C) p (d + 1) V' S) _
      rw [show ss_push (sm_w K B C) p (d + 1) V' S = (p, d + 1, V') :: S from if_neg ed]
      refine mx_I_asg eact ha b2 b3 (by rw [mx_cc_s b4]; omega) hv' zV' ?_
      exact ⟨o', b, rfl, e1, pk_us, e3, Nat.le_refl _, b2, b3, b4, by show d + 1 < sm_w K B C p; omega, b6, by rw [Nat.sub_self]; rfl, mx_Rep_congr S o' b V' b8 (fun j _ => ⟨rfl, rfl⟩) (fun j hj => ⟨rfl, pk_un (by omega), rfl⟩)⟩
theorem mx_begin (hW : sm_W n K A B C) {i : Nat} {V : Nat → Int32} {S : List (Nat × Nat × (Nat → Int32))} {u : SX} (h : mx_I n s K A B C i V S u) (hi : i < n) (hc : sm_ty K i = 0) {post : Int32 → SX → Prop}
    (h0 : sm_w K B C i = 0 → post 0 u)
    (h1 : ∀ u', ¬ sm_w K B C i = 0 → mx_I n s K A B C (i + 1) (sm_act K A B i 0 V) (ss_push (sm_w K B C) i 1 V S) u' → post 1 u') :
    wpX_beginChoice post u := by
  obtain ⟨t, o, tv, tx, os, ow, ot, rfl, ti, il, oc, hv, hz, R⟩ := h
  have hn := hW.1
  have cl := mx_cc_lt hW hi hc
  have d13 := sm_w13 (hW.2.1 i hi)
  have co : (nI o).toNatClampNeg = o := nI_clamp (by omega)
  have io : vp_in (nI o) 4 := vp_in_nI (by omega) (by omega)
  unfold wpX_beginChoice
  dsimp only
  refine mx_ways (by omega) hc ?_
  by_cases w0 : sm_w K B C i = 0
  · exact br_t (by rw [w0]; rfl) (h0 w0)
  refine br_f (nI_ne0 (by omega) (by omega)) ?_
  by_cases w1 : sm_w K B C i = 1
  · refine br_t (by rw [w1]; decide) ?_
    obtain ⟨a, x, ha, eact, T⟩ := mx_take (fs := nI s) (fa := nI i) (fe := nI n) (fo := nI o) (V := V) (tv := tv) (tx := tx) (os := os) (ow := ow) (ot := ot) (d := 0) (show i < 14 by omega) (show t < 16 by omega) (hW.2.1 i hi) hc (by omega)
    refine T _ (nm_r (nI_1 i) (h1 _ w0 ?_))
    rw [show ss_push (sm_w K B C) i 1 V S = S from if_pos w1.symm]
    exact mx_I_asg eact ha ti hi (by rw [mx_cc_s hc]; omega) hv hz R
  · refine br_f (nI_ge (a := 1) (by omega) (by omega)) ?_
    refine ⟨io, nm_r (e' := upd os o (nI i)) (by rw [co, mb_nI (by omega)]) ⟨io, nm_r (e' := upd ow o (nI 1)) (by rw [co, vp_nar_byte]; rfl) ⟨io, nm_r (e' := upd ot o (nI t)) (by rw [co, mb_nI (by omega)]) (nm_r (nI_1 o) ?_)⟩⟩⟩
    obtain ⟨a, x, ha, eact, T⟩ := mx_take (fs := nI s) (fa := nI i) (fe := nI n) (fo := nI (o + 1)) (V := V) (tv := tv) (tx := tx) (os := upd os o (nI i)) (ow := upd ow o (nI 1)) (ot := upd ot o (nI t)) (d := 0) (show i < 14 by omega) (show t < 16 by omega) (hW.2.1 i hi) hc (by omega)
    refine T _ (nm_r (nI_1 i) (h1 _ w0 ?_))
    rw [show ss_push (sm_w K B C) i 1 V S = (i, 1, V) :: S from if_neg (fun z => w1 z.symm)]
    refine mx_I_asg eact ha ti hi (by rw [mx_cc_s hc]; omega) hv hz ?_
    exact ⟨o, t, rfl, pk_us, pk_us, pk_us, Nat.le_refl _, ti, hi, hc, by show 1 < sm_w K B C i; omega, oc, by rw [Nat.sub_self]; rfl, mx_Rep_congr S o t V R (fun j _ => ⟨rfl, rfl⟩) (fun j hj => ⟨pk_un (by omega), pk_un (by omega), pk_un (by omega)⟩)⟩
end
end
section
/-! the component: doStep, advance, start -/
section
variable {n s : Nat} {K A B C : Nat → Int32}
theorem mx_st1 {T : Type} {ty w : Nat → Nat} {act : Nat → Nat → T → T} {ok : Nat → T → Bool} {i : Nat} {V : T} {S : List (Nat × Nat × T)} (t : ty i = 1) : ss_step ty w act ok i V S = some (V, []) := by
  unfold ss_step
  rw [if_neg (by omega), if_pos t]
theorem mx_st2 {T : Type} {ty w : Nat → Nat} {act : Nat → Nat → T → T} {ok : Nat → T → Bool} {i : Nat} {V : T} {S : List (Nat × Nat × T)} (t : ty i = 2) (o : ok i V = true) : ss_step ty w act ok i V S = some (act i 0 V, S) := by
  unfold ss_step
  rw [if_neg (by omega), if_neg (by omega), if_pos o]
theorem mx_st2f {T : Type} {ty w : Nat → Nat} {act : Nat → Nat → T → T} {ok : Nat → T → Bool} {i : Nat} {V : T} {S : List (Nat × Nat × T)} (t : ty i = 2) (o : ok i V = false) : ss_step ty w act ok i V S = none := by
  unfold ss_step
  rw [if_neg (by omega), if_neg (by omega), if_neg (by rw [o]; decide)]
theorem mx_act5 {i d : Nat} {V : Nat → Int32} (h : K i = 5 ∨ K i = 6 ∨ K i = 7) : sm_act K A B i d V = V := by
  unfold sm_act
  rcases h with h | h | h <;> rw [if_neg (by rw [h]; decide), if_neg (by rw [h]; decide), if_neg (by rw [h]; decide), if_neg (by rw [h]; decide), if_neg (by rw [h]; decide), if_neg (by rw [h]; decide)]
theorem mx_doStep (hW : sm_W n K A B C) {i : Nat} {V : Nat → Int32} {S : List (Nat × Nat × (Nat → Int32))} {u : SX} (h : mx_I n s K A B C i V S u) (hi : i < n) {post : Int32 → SX → Prop}
    (h1 : ∀ V' S' u', ss_step (sm_ty K) (sm_w K B C) (sm_act K A B) (sm_ok K A B) i V S = some (V', S') → mx_I n s K A B C (i + 1) V' S' u' → post 1 u')
    (h0 : ∀ i' u', ss_step (sm_ty K) (sm_w K B C) (sm_act K A B) (sm_ok K A B) i V S = none → mx_I n s K A B C i' V S u' → post 0 u') :
    wpX_doStep post u := by
  have I := h
  obtain ⟨t, o, tv, tx, os, ow, ot, rfl, ti, il, oc, hv, hz, R⟩ := h
  have hn := hW.1
  have wf := hW.2.1 i hi
  obtain ⟨a, ha, eA⟩ := wf.2.1
  have ca : (nI a).toNatClampNeg = a := nI_clamp (by omega)
  have ia : vp_in (nI a) 4 := vp_in_nI ha (by omega)
  have ci : (nI i).toNatClampNeg = i := nI_clamp (by omega)
  have ii : vp_in (nI i) 14 := vp_in_nI (by omega) (by omega)
  have oc' : o ≤ ss_cc (sm_ty K) (i + 1) := Nat.le_trans oc (ss_cc_mono _ (Nat.le_succ i))
  have Ik : mx_I n s K A B C (i + 1) V S (nI s, nI (i + 1), nI n, nI t, nI o, K, A, B, C, V, tv, tx, os, ow, ot) := ⟨t, o, _, _, _, _, _, rfl, by omega, hi, oc', hv, hz, R⟩
  refine ⟨ii, nm_r (e' := K i) (by rw [ci]) ⟨ii, nm_r (e' := nI a) (by rw [ci, eA]) ⟨ii, nm_r (e' := B i) (by rw [ci]) ?_⟩⟩⟩
  refine mx_chooses (K := K) (i := i) (fun c => br_f (by decide) ?_) (fun c => br_t rfl (nm_r (nI_1 i) ?_))
  · refine mx_begin hW I hi c ?_ ?_
    · intro w0
      exact ⟨narrow_b0, h0 i _ (by unfold ss_step; rw [if_pos c, if_pos w0]) I⟩
    · intro u' w0 hI
      obtain ⟨y1, y2, y3, y4, y5, y6, y7, y8, y9, y10, y11, y12, y13, y14, y15⟩ := u'
      exact ⟨narrow_b1, h1 _ _ _ (by unfold ss_step; rw [if_pos c, if_neg w0]) hI⟩
  · have two : ∀ k : Int32, K i = k → (if k = 0 ∨ k = 4 ∨ k = 9 then 0 else if k = 8 then 1 else 2 : Nat) = 2 → sm_ty K i = 2 := fun k e f => by unfold sm_ty; rw [e]; exact f
    rcases sm_cas wf with k | k | k | k | k | k | k | k | k | k
    · exact absurd (sm_ty0 (Or.inl k)) c
    · have st := mx_st2 (w := sm_w K B C) (act := sm_act K A B) (ok := sm_ok K A B) (V := V) (S := S) (two 1 k (by decide)) (by unfold sm_ok; rw [k]; rfl)
      rw [k]
      refine br_f (by decide) (br_f (by decide) (br_t rfl (mx_assign ha (by omega) ?_)))
      exact h1 _ _ _ st (mx_I_asg (by unfold sm_act; rw [if_neg (by rw [k]; decide), if_pos k, eA, ca]) ha ti hi oc' hv hz R)
    · have st := mx_st2 (w := sm_w K B C) (act := sm_act K A B) (ok := sm_ok K A B) (V := V) (S := S) (two 2 k (by decide)) (by unfold sm_ok; rw [k]; rfl)
      obtain ⟨b, hb, eb⟩ := wf.2.2.2 (by rw [k]; decide) (by rw [k]; decide)
      have cb : (nI b).toNatClampNeg = b := nI_clamp (by omega)
      have ib : vp_in (nI b) 4 := vp_in_nI hb (by omega)
      rw [k, eb]
      refine br_f (by decide) (br_f (by decide) (br_f (by decide) (br_t rfl ⟨ia, ib, ?_⟩)))
      rw [ca, cb]
      refine mx_assign ha (by omega) ?_
      exact h1 _ _ _ st (mx_I_asg (by unfold sm_act; rw [if_neg (by rw [k]; decide), if_neg (by rw [k]; decide), if_pos k, eA, ca, eb, cb]) ha ti hi oc' hv hz R)
    · have st := mx_st2 (w := sm_w K B C) (act := sm_act K A B) (ok := sm_ok K A B) (V := V) (S := S) (two 3 k (by decide)) (by unfold sm_ok; rw [k]; rfl)
      obtain ⟨b, hb, eb⟩ := wf.2.2.2 (by rw [k]; decide) (by rw [k]; decide)
      have cb : (nI b).toNatClampNeg = b := nI_clamp (by omega)
      have ib : vp_in (nI b) 4 := vp_in_nI hb (by omega)
      rw [k, eb]
      refine br_f (by decide) (br_f (by decide) (br_f (by decide) (br_f (by decide) (br_t rfl ⟨ia, ib, ?_⟩))))
      rw [ca, cb]
      refine mx_assign ha (by omega) ?_
      exact h1 _ _ _ st (mx_I_asg (by unfold sm_act; rw [if_neg (by rw [k]; decide), if_neg (by rw [k]; decide), if_neg (by rw [k]; decide), if_pos k, eA, ca, eb, cb]) ha ti hi oc' hv hz R)
    · exact absurd (sm_ty0 (Or.inr (Or.inl k))) c
    · obtain ⟨b, hb, eb⟩ := wf.2.2.2 (by rw [k]; decide) (by rw [k]; decide)
      have cb : (nI b).toNatClampNeg = b := nI_clamp (by omega)
      have ib : vp_in (nI b) 4 := vp_in_nI hb (by omega)
      have eo : sm_ok K A B i V = decide (V a < V b) := by unfold sm_ok; rw [if_pos k, eA, ca, eb, cb]
      rw [k, eb]
      refine br_f (by decide) (br_f (by decide) (br_f (by decide) (br_f (by decide) (br_f (by decide) (br_f (by decide) (br_t rfl ⟨ia, ib, ?_⟩))))))
      rw [ca, cb]
      refine br_c (fun z => h0 (i + 1) _ (mx_st2f (two 5 k (by decide)) (by rw [eo]; exact decide_eq_false (Int32.not_lt.mpr z))) Ik) (fun z => h1 V S _ ?_ Ik)
      rw [mx_st2 (two 5 k (by decide)) (by rw [eo]; exact decide_eq_true (Int32.not_le.mp z)), mx_act5 (Or.inl k)]
    · obtain ⟨b, hb, eb⟩ := wf.2.2.2 (by rw [k]; decide) (by rw [k]; decide)
      have cb : (nI b).toNatClampNeg = b := nI_clamp (by omega)
      have ib : vp_in (nI b) 4 := vp_in_nI hb (by omega)
      have eo : sm_ok K A B i V = decide (V a = V b) := by unfold sm_ok; rw [if_neg (by rw [k]; decide), if_pos k, eA, ca, eb, cb]
      rw [k, eb]
      refine br_f (by decide) (br_f (by decide) (br_f (by decide) (br_f (by decide) (br_f (by decide) (br_f (by decide) (br_f (by decide) (br_t rfl ⟨ia, ib, ?_⟩)))))))
      rw [ca, cb]
      refine br_c (fun z => h1 V S _ ?_ Ik) (fun z => h0 (i + 1) _ (mx_st2f (two 6 k (by decide)) (by rw [eo]; exact decide_eq_false z)) Ik)
      rw [mx_st2 (two 6 k (by decide)) (by rw [eo]; exact decide_eq_true z), mx_act5 (Or.inr (Or.inl k))]
    · obtain ⟨b, hb, eb⟩ := wf.2.2.2 (by rw [k]; decide) (by rw [k]; decide)
      have cb : (nI b).toNatClampNeg = b := nI_clamp (by omega)
      have ib : vp_in (nI b) 4 := vp_in_nI hb (by omega)
      have eo : sm_ok K A B i V = decide (¬ V a = V b) := by unfold sm_ok; rw [if_neg (by rw [k]; decide), if_neg (by rw [k]; decide), if_pos k, eA, ca, eb, cb]
      rw [k, eb]
      refine br_f (by decide) (br_f (by decide) (br_f (by decide) (br_f (by decide) (br_f (by decide) (br_f (by decide) (br_f (by decide) (br_f (by decide) (br_t rfl ⟨ia, ib, ?_⟩))))))))
      rw [ca, cb]
      refine br_c (fun z => h0 (i + 1) _ (mx_st2f (two 7 k (by decide)) (by rw [eo]; exact decide_eq_false (fun y => y z))) Ik) (fun z => h1 V S _ ?_ Ik)
      rw [mx_st2 (two 7 k (by decide)) (by rw [eo]; exact decide_eq_true z), mx_act5 (Or.inr (Or.inr k))]
    · have t1 : sm_ty K i = 1 := by unfold sm_ty; rw [k]; decide
      rw [k]
      refine br_f (by decide) (br_t (by decide) ?_)
      exact h1 _ _ _ (mx_st1 t1) ⟨t, 0, _, _, _, _, _, rfl, by omega, hi, Nat.zero_le _, hv, hz, rfl⟩
    · exact absurd (sm_ty0 (Or.inr (Or.inr k))) c
end
end
section
/-! the component: advance, start; the answers one after another -/
def mx_adv (post : Int32 → SX → Prop) (n : Nat) (x2 x3 : Int32) (u : SX) : Prop := match u with
  | (fs, fa, fe, ft, fo, K, A, B, C, V, tv, tx, os, ow, ot) => wX_advance_19 post n x2 x3 fs fa fe ft fo K A B C V tv tx os ow ot
theorem mx_adv0 {post : Int32 → SX → Prop} {n : Nat} {x3 : Int32} {u : SX} (h : post 0 u) : mx_adv post (n + 1) 0 x3 u := by
  obtain ⟨y1, y2, y3, y4, y5, y6, y7, y8, y9, y10, y11, y12, y13, y14, y15⟩ := u
  exact br_c (fun _ => h) (fun _ => br_t rfl h)
section
variable {n s : Nat} {K A B C : Nat → Int32}
theorem mx_loop (hW : sm_W n K A B C) {post : Int32 → SX → Prop} : ∀ (fuel r i : Nat) (V : Nat → Int32) (S : List (Nat × Nat × (Nat → Int32))) (u : SX), mx_I n s K A B C i V S u →
    ss_cost (sm_w K B C) (n - i) i + ss_mu (sm_w K B C) n S < fuel → ss_cost (sm_w K B C) (n - i) i + ss_mu (sm_w K B C) n S + r < 30800 →
    (ss_tot (sm_ty K) (sm_w K B C) (sm_act K A B) (sm_ok K A B) n i V S = [] → ∀ u', mx_Fr s K A B C u' → post 0 u') →
    (∀ V' S' u', ss_tot (sm_ty K) (sm_w K B C) (sm_act K A B) (sm_ok K A B) n i V S = V' :: ss_rest (sm_ty K) (sm_w K B C) (sm_act K A B) (sm_ok K A B) n S' → mx_I n s K A B C n V' S' u' →
      ss_mu (sm_w K B C) n S' ≤ ss_cost (sm_w K B C) (n - i) i + ss_mu (sm_w K B C) n S → post 1 u') →
    mx_adv post fuel 1 (nI r) u := by
  intro fuel
  induction fuel with
  | zero => intro r i V S u _ h; omega
  | succ fuel ih =>
    intro r i V S u I hf hr h0 h1
    have hn := hW.1
    have il : i ≤ n := by obtain ⟨_, _, _, _, _, _, _, _, _, q, _⟩ := I; exact q
    have ef : ∃ ft fo V tv tx os ow ot, u = (nI s, nI i, nI n, ft, fo, K, A, B, C, V, tv, tx, os, ow, ot) := by obtain ⟨_, _, _, _, _, _, _, q, _⟩ := I; exact ⟨_, _, _, _, _, _, _, _, q⟩
    obtain ⟨ft, fo, V0, tv, tx, os, ow, ot, rfl⟩ := ef
    by_cases e : i = n
    · subst e
      exact br_f (nI_ge (b := 30800) (by omega) (by decide)) (br_f (by decide) (br_t rfl (h1 V S _ (ss_tot_n _ _ _ _ _ _ _) I (by omega))))
    · have hi : i < n := by omega
      refine br_f (nI_ge (b := 30800) (by omega) (by decide)) (br_f (by decide) (br_f (fun z => e ((nI_eq (by omega) (by omega)).mp z)) ?_))
      refine mx_doStep hW I hi ?_ ?_
      · intro V' S' u' hs hI
        obtain ⟨q1, q2⟩ := ss_step_some (sm_hw K B C) hi hs
        obtain ⟨y1, y2, y3, y4, y5, y6, y7, y8, y9, y10, y11, y12, y13, y14, y15⟩ := u'
        refine br_f (by decide) (nm_r (nI_1 r) ?_)
        exact ih (r + 1) (i + 1) V' S' _ hI (by omega) (by omega) (fun z => h0 (q1.trans z)) (fun V'' S'' u'' z I' m => h1 V'' S'' u'' (q1.trans z) I' (by omega))
      · intro i' u' hs hI
        obtain ⟨q1, q2⟩ := ss_step_none hi hs
        obtain ⟨fuel, rfl⟩ : ∃ m, fuel = m + 1 := ⟨fuel - 1, by omega⟩
        obtain ⟨y1, y2, y3, y4, y5, y6, y7, y8, y9, y10, y11, y12, y13, y14, y15⟩ := u'
        refine br_t rfl (mx_goBack hW hI ?_ ?_)
        · intro e
          subst e
          refine br_t rfl (nm_r (nI_1 r) ?_)
          exact mx_adv0 (u := (y1, y2, y3, y4, y5, y6, y7, y8, y9, y10, y11, y12, y13, y14, y15)) (h0 q1 _ (mx_I_Fr hI))
        · intro f S' e w1 w2 u'' hI'
          subst e
          have b := ss_back (sm_ty K) (sm_w K B C) (sm_act K A B) (sm_ok K A B) n f.1 f.2.1 f.2.2 S' w1
          have bm := ss_back_mu (sm_w K B C) n f.1 f.2.1 f.2.2 S' w1
          have q3 := q1.trans b
          have bm' : ss_cost (sm_w K B C) (n - (f.1 + 1)) (f.1 + 1) + ss_mu (sm_w K B C) n (ss_push (sm_w K B C) f.1 (f.2.1 + 1) f.2.2 S') = ss_mu (sm_w K B C) n (f :: S') := bm
          obtain ⟨x1, x2, x3, x4, x5, x6, x7, x8, x9, x10, x11, x12, x13, x14, x15⟩ := u''
          refine br_f (by decide) (nm_r (nI_1 r) ?_)
          exact ih (r + 1) (f.1 + 1) _ _ _ hI' (by omega) (by omega) (fun z => h0 (q3.trans z)) (fun V'' S'' u'' z I' m => h1 V'' S'' u'' (q3.trans z) I' (by omega))
/-- the component stands at an answer V; L are those behind it -/
def mx_A (n s : Nat) (K A B C V : Nat → Int32) (L : List (Nat → Int32)) (u : SX) : Prop :=
  ∃ S, mx_I n s K A B C n V S u ∧ ss_rest (sm_ty K) (sm_w K B C) (sm_act K A B) (sm_ok K A B) n S = L ∧ ss_mu (sm_w K B C) n S ≤ 30758
/-- what advance has answered: r, with the answers L from here on -/
def mx_Q (n s : Nat) (K A B C : Nat → Int32) (L : List (Nat → Int32)) (r : Int32) (u : SX) : Prop :=
  (L = [] ∧ r = 0 ∧ mx_Fr s K A B C u) ∨ ∃ V L', L = V :: L' ∧ r = 1 ∧ mx_A n s K A B C V L' u
theorem mx_next (hW : sm_W n K A B C) {V : Nat → Int32} {L : List (Nat → Int32)} {u : SX} (h : mx_A n s K A B C V L u) {post : Int32 → SX → Prop} (hp : ∀ r u', mx_Q n s K A B C L r u' → post r u') :
    wpX_advance post u 0 := by
  obtain ⟨S, I, eL, hm⟩ := h
  obtain ⟨N, hN⟩ : ∃ N, N = 30800 := ⟨_, rfl⟩
  obtain ⟨y1, y2, y3, y4, y5, y6, y7, y8, y9, y10, y11, y12, y13, y14, y15⟩ := u
  refine br_t rfl (mx_goBack hW I ?_ ?_)
  · intro e
    subst e
    exact br_t rfl ⟨1, mx_adv0 (n := 0) (u := (y1, y2, y3, y4, y5, y6, y7, y8, y9, y10, y11, y12, y13, y14, y15)) (hp 0 _ (Or.inl ⟨eL.symm, rfl, mx_I_Fr I⟩))⟩
  · intro f S' e w1 w2 u'' hI'
    subst e
    have b : ss_rest (sm_ty K) (sm_w K B C) (sm_act K A B) (sm_ok K A B) n (f :: S') = _ := ss_back (sm_ty K) (sm_w K B C) (sm_act K A B) (sm_ok K A B) n f.1 f.2.1 f.2.2 S' w1
    have bm : ss_cost (sm_w K B C) (n - (f.1 + 1)) (f.1 + 1) + ss_mu (sm_w K B C) n (ss_push (sm_w K B C) f.1 (f.2.1 + 1) f.2.2 S') = ss_mu (sm_w K B C) n (f :: S') := ss_back_mu (sm_w K B C) n f.1 f.2.1 f.2.2 S' w1
    have q3 := eL.symm.trans b
    obtain ⟨x1, x2, x3, x4, x5, x6, x7, x8, x9, x10, x11, x12, x13, x14, x15⟩ := u''
    refine br_f (by decide) ⟨N, ?_⟩
    exact mx_loop hW N 0 (f.1 + 1) _ _ _ hI' (by omega) (by omega) (fun z u' fr => hp 0 u' (Or.inl ⟨q3.trans z, rfl, fr⟩))
      (fun V' S'' u' z I' m => hp 1 u' (Or.inr ⟨V', _, q3.trans z, rfl, S'', I', rfl, by omega⟩))
theorem mx_first (hW : sm_W n K A B C) {u : SX} (I : mx_I n s K A B C 0 (fun _ => 0) [] u) {post : Int32 → SX → Prop} (hp : ∀ r u', mx_Q n s K A B C (sm_L n K A B C) r u' → post r u') :
    wpX_advance post u 1 := by
  obtain ⟨N, hN⟩ : ∃ N, N = 30800 := ⟨_, rfl⟩
  obtain ⟨y1, y2, y3, y4, y5, y6, y7, y8, y9, y10, y11, y12, y13, y14, y15⟩ := u
  have hc := sm_cost hW
  have m0 : ss_mu (T := Nat → Int32) (sm_w K B C) n [] = 0 := rfl
  have q : sm_L n K A B C = ss_tot (sm_ty K) (sm_w K B C) (sm_act K A B) (sm_ok K A B) n 0 (fun _ => 0) [] := by
    unfold sm_L ss_tot ss_then
    show _ = _ ++ if _ then [] else []
    rw [ite_self, List.append_nil]
    rfl
  refine br_f (by decide) ⟨N, ?_⟩
  exact mx_loop hW N 0 0 _ _ _ I (by rw [Nat.sub_zero]; omega) (by rw [Nat.sub_zero]; omega) (fun z u' fr => hp 0 u' (Or.inl ⟨q.trans z, rfl, fr⟩))
    (fun V' S'' u' z I' m => hp 1 u' (Or.inr ⟨V', _, q.trans z, rfl, S'', I', rfl, by rw [Nat.sub_zero] at m; omega⟩))
theorem mx_start0 {post : SX → Prop} {x1 fs fa fe ft fo : Int32} {tv tx os ow ot : Nat → Int32} : ∀ (d j : Nat) (V : Nat → Int32), j + d = 4 →
    (∀ V' : Nat → Int32, (∀ x, j ≤ x → x < 4 → V' x = 0) → (∀ x, x < j ∨ 4 ≤ x → V' x = V x) → post (fs, 0, x1, 0, 0, K, A, B, C, V', tv, tx, os, ow, ot)) →
    wX_start_2 post x1 fs fa fe ft fo (d + 1) (nI j) K A B C V tv tx os ow ot := by
  intro d
  induction d with
  | zero =>
    intro j V hj h
    exact br_t (nI_le (a := 4) (by omega) (by omega)) (h V (fun x a b => by omega) (fun x _ => rfl))
  | succ d ih =>
    intro j V hj h
    have cj : (nI j).toNatClampNeg = j := nI_clamp (by omega)
    refine br_f (nI_ge (b := 4) (by omega) (by omega)) ⟨vp_in_nI (by omega) (by omega), nm_r (e' := upd V j 0) (by rw [cj]) (nm_r (nI_1 j) ?_)⟩
    refine ih (j + 1) (upd V j 0) (by omega) (fun V' a b => h V' ?_ ?_)
    · intro x x1 x2
      by_cases e : x = j
      · subst e
        rw [b x (by omega)]
        exact pk_us
      · exact a x (by omega) x2
    · intro x hx
      rw [b x (by omega)]
      exact pk_un (by omega)
theorem mx_start {u : SX} (h : mx_Fr s K A B C u) {post : SX → Prop} (hp : ∀ u', mx_I n s K A B C 0 (fun _ => 0) [] u' → post u') : wpX_start post u (nI n) := by
  obtain ⟨fa, fe, ft, fo, V, tv, tx, os, ow, ot, rfl, hz⟩ := h
  refine ⟨5, mx_start0 4 0 V rfl (fun V' a b => hp _ ?_)⟩
  have e : V' = fun _ => 0 := by
    funext x
    by_cases hx : x < 4
    · exact a x (Nat.zero_le _) hx
    · rw [b x (by omega)]
      exact hz x (by omega)
  subst e
  exact ⟨0, 0, tv, tx, os, ow, ot, rfl, Nat.le_refl _, Nat.zero_le _, Nat.zero_le _, fun j hj => by omega, fun _ _ => rfl, rfl⟩
end
end
section
/-! the reference: options, between, carryOut, run, begin -/
section
variable {fs : Int32} {K A B C V F : Nat → Int32}
theorem my_options {post : Int32 → Prop} {i : Nat} (hi : i < 14) (wf : sm_wf K A B C i) (h : post (nI (sm_w K B C i))) : wpY_options post (fs, K, A, B, C, V, F) (nI i) := by
  have ci : (nI i).toNatClampNeg = i := nI_clamp (by omega)
  have ii : vp_in (nI i) 14 := vp_in_nI hi (by omega)
  unfold wpY_options
  dsimp only
  rw [ci]
  refine ⟨ii, br_c (fun c => ⟨ii, ii, ?_⟩) (fun c => ⟨ii, br_c (fun d => ?_) (fun d => ⟨ii, br_c (fun d' => ?_) (fun d' => ?_)⟩)⟩)⟩
  · obtain ⟨h1, h2⟩ := wf.2.2.1 c
    have e := sm_d1 h1 h2
    rw [sm_wK0 c] at h
    refine br_c (fun p => ⟨ii, ii, ?_⟩) (fun p => ?_)
    · rw [Int32.le_iff_toInt_le] at p
      rw [mb_nn (x := C i - B i + 1) (by rw [Int32.le_iff_toInt_le, e]; have : (0 : Int32).toInt = 0 := by decide
                                         omega)]
      exact h
    · rw [Int32.le_iff_toInt_le] at p
      rw [mb_np (by omega)] at h
      exact h
  · rw [sm_wK2 c (Or.inl d)] at h; exact h
  · rw [sm_wK2 c (Or.inr d')] at h; exact h
  · rw [sm_wK1 c (fun z => z.elim d d')] at h; exact h
theorem my_between0 {post : Int32 → Prop} {n : Nat} (hn : n ≤ 14) (wf : ∀ i, i < n → sm_wf K A B C i) : ∀ (m i acc : Nat), i + m = n → post (nI (acc * ss_P (sm_w K B C) m i)) →
    wY_between_5 post (nI n) fs K A B C V F (m + 1) (nI acc) (nI i) := by
  intro m
  induction m with
  | zero =>
    intro i acc hi h
    rw [ss_P, Nat.mul_one] at h
    exact br_t (nI_le (by omega) (by omega)) h
  | succ m ih =>
    intro i acc hi h
    refine br_f (nI_ge (by omega) (by omega)) (my_options (by omega) (wf i (by omega)) (nm_r (pk_mul _ _) (nm_r (nI_1 i) ?_)))
    refine ih (i + 1) _ (by omega) ?_
    rw [Nat.mul_assoc]
    exact h
theorem my_between {post : Int32 → Prop} {n i : Nat} (hn : n ≤ 14) (wf : ∀ i, i < n → sm_wf K A B C i) (hi : i ≤ n) (h : post (nI (ss_P (sm_w K B C) (n - i) i))) :
    wpY_between post (fs, K, A, B, C, V, F) (nI i) (nI n) := by
  refine ⟨n - i + 1, my_between0 hn wf (n - i) i 1 (by omega) ?_⟩
  rw [Nat.one_mul]
  exact h
theorem my_and3 {b : Nat} (hb : b < 4) : nI b &&& 3 = nI b := by
  rw [pk_andN (by omega) 2 (by decide)]
  exact congrArg nI (Nat.mod_eq_of_lt hb)
/-- the verdict at the end of carryOut, for steps that aren't a once or a test -/
theorem my_c200 {post : Int32 → SY → Prop} {x1 x3 x4 x7 x8 : Int32} (h8 : ¬ x4 = 8) (h5 : ¬ x4 = 5) (h6 : ¬ x4 = 6) (h7 : ¬ x4 = 7) (h : post 1 (fs, K, A, B, C, V, F)) : wY_carryOut_200 post x1 x3 x4 x7 x8 fs K A B C V F :=
  br_f h8 (br_f h5 (br_f h6 (br_f h7 h)))
theorem my_carry {post : Int32 → SY → Prop} {i d b : Nat} (hi : i < 14) (hd : d < 2 ^ 31) (wf : sm_wf K A B C i)
    (h0 : sm_ty K i = 0 → post 1 (fs, K, A, B, C, sm_act K A B i d V, F))
    (h1 : sm_ty K i = 1 → post (if ss_mark F i b i = nI b then 1 else 0) (fs, K, A, B, C, V, ss_mark F i b))
    (h2 : sm_ty K i = 2 → sm_ok K A B i V = true → post 1 (fs, K, A, B, C, sm_act K A B i 0 V, F))
    (h2f : sm_ty K i = 2 → sm_ok K A B i V = false → post 0 (fs, K, A, B, C, V, F)) :
    wpY_carryOut post (fs, K, A, B, C, V, F) (nI i) (nI d) (nI b) := by
  have ci : (nI i).toNatClampNeg = i := nI_clamp (by omega)
  have ii : vp_in (nI i) 14 := vp_in_nI hi (by omega)
  obtain ⟨a, ha, eA⟩ := wf.2.1
  have ca : (nI a).toNatClampNeg = a := nI_clamp (by omega)
  have ia : vp_in (nI a) 4 := vp_in_nI ha (by omega)
  have two : ∀ k : Int32, K i = k → (if k = 0 ∨ k = 4 ∨ k = 9 then 0 else if k = 8 then 1 else 2 : Nat) = 2 → sm_ty K i = 2 := fun k e f => by unfold sm_ty; rw [e]; exact f
  refine ⟨ii, nm_r (e' := K i) (by rw [ci]) ⟨ii, nm_r (e' := nI a) (by rw [ci, eA]) ⟨ii, nm_r (e' := B i) (by rw [ci]) ⟨ia, nm_r (e' := V a) (by rw [ca]) ?_⟩⟩⟩⟩
  by_cases k0 : K i = 0
  · have r := h0 (sm_ty0 (Or.inl k0))
    have ac : sm_act K A B i d V = upd V a (B i + nI d) := by unfold sm_act; rw [if_pos k0, eA, ca]
    rw [ac] at r
    rw [k0]
    exact br_t (by decide) (br_t rfl ⟨ia, nm_r (e' := upd V a (B i + nI d)) (by rw [ca]) (my_c200 (by decide) (by decide) (by decide) (by decide) r)⟩)
  by_cases k1 : K i = 1
  · have r := h2 (two 1 k1 (by decide)) (by unfold sm_ok; rw [k1]; rfl)
    have ac : sm_act K A B i 0 V = upd V a (B i) := by unfold sm_act; rw [if_neg k0, if_pos k1, eA, ca]
    rw [ac] at r
    rw [k1]
    exact br_t (by decide) (br_f (by decide) (br_t rfl ⟨ia, nm_r (e' := upd V a (B i)) (by rw [ca]) (my_c200 (by decide) (by decide) (by decide) (by decide) r)⟩))
  by_cases k8 : K i = 8
  · have r := h1 (by unfold sm_ty; rw [k8]; decide)
    rw [k8]
    refine br_f (by decide) (br_t rfl (br_f (by decide) (br_f (by decide) (br_f (by decide) (br_f (by decide) (br_f (by decide) (br_f (by decide) (br_t rfl ⟨ii, ?_⟩))))))))
    have fin : ∀ z : Int32, upd F i z = ss_mark F i b → wY_carryOut_231 post (nI i) (nI b) z (nI i) fs K A B C V F := by
      intro z ez
      refine ⟨ii, nm_r (e' := ss_mark F i b) (by rw [ci]; exact ez) ⟨ii, ?_⟩⟩
      rw [ci]
      refine br_c (fun q => ?_) (fun q => ?_)
      · rw [if_pos q] at r; exact r
      · rw [if_neg q] at r; exact r
    rw [ci]
    refine br_c (fun q => ⟨ii, fin _ ?_⟩) (fun q => fin _ ?_)
    · unfold ss_mark; rw [if_pos q]
    · unfold ss_mark; rw [if_neg q]
  obtain ⟨b', hb, eb⟩ := wf.2.2.2 k0 k1
  have cb : (nI b').toNatClampNeg = b' := nI_clamp (by omega)
  have ib : vp_in (nI b') 4 := vp_in_nI hb (by omega)
  have and3 := my_and3 hb
  have k2' : ¬ K i < 2 := by
    rcases sm_cas wf with k | k | k | k | k | k | k | k | k | k
    · exact absurd k k0
    · exact absurd k k1
    all_goals (rw [k]; decide)
  rw [eb]
  refine br_f k2' (br_f k8 ⟨by rw [and3]; exact ib, ?_⟩)
  rw [and3, cb]
  refine br_f k0 (br_f k1 ?_)
  rcases sm_cas wf with k | k | k | k | k | k | k | k | k | k
  · exact absurd k k0
  · exact absurd k k1
  · have r := h2 (two 2 k (by decide)) (by unfold sm_ok; rw [k]; rfl)
    have ac : sm_act K A B i 0 V = upd V a (V a + V b') := by unfold sm_act; rw [if_neg k0, if_neg k1, if_pos k, eA, ca, eb, cb]
    rw [ac] at r
    rw [k]
    exact br_t rfl ⟨ia, nm_r (e' := upd V a (V a + V b')) (by rw [ca]) (my_c200 (by decide) (by decide) (by decide) (by decide) r)⟩
  · have r := h2 (two 3 k (by decide)) (by unfold sm_ok; rw [k]; rfl)
    have ac : sm_act K A B i 0 V = upd V a (V a * V b') := by unfold sm_act; rw [if_neg k0, if_neg k1, if_neg (by rw [k]; decide), if_pos k, eA, ca, eb, cb]
    rw [ac] at r
    rw [k]
    exact br_f (by decide) (br_t rfl ⟨ia, nm_r (e' := upd V a (V a * V b')) (by rw [ca]) (my_c200 (by decide) (by decide) (by decide) (by decide) r)⟩)
  · have r := h0 (sm_ty0 (Or.inr (Or.inl k)))
    have ac : sm_act K A B i d V = upd V a (if d = 0 then V b' else V a) := by
      unfold sm_act
      rw [if_neg k0, if_neg k1, if_neg (by rw [k]; decide), if_neg (by rw [k]; decide), if_pos k, eA, eb, ca, cb]
    rw [ac] at r
    rw [k]
    refine br_f (by decide) (br_f (by decide) (br_t rfl ?_))
    by_cases d0 : d = 0
    · rw [if_pos d0] at r
      exact br_t (by rw [d0]; rfl) ⟨ia, nm_r (e' := upd V a (V b')) (by rw [ca]) (my_c200 (by decide) (by decide) (by decide) (by decide) r)⟩
    · rw [if_neg d0] at r
      exact br_f (nI_ne0 (by omega) hd) ⟨ia, nm_r (e' := upd V a (V a)) (by rw [ca]) (my_c200 (by decide) (by decide) (by decide) (by decide) r)⟩
  · have eo : sm_ok K A B i V = decide (V a < V b') := by unfold sm_ok; rw [if_pos k, eA, ca, eb, cb]
    have r1 := h2 (two 5 k (by decide))
    have r0 := h2f (two 5 k (by decide))
    rw [mx_act5 (Or.inl k)] at r1
    rw [k]
    refine br_f (by decide) (br_f (by decide) (br_f (by decide) (br_f (by decide) (br_f (by decide) (br_t rfl ?_)))))
    exact br_c (fun z => r0 (by rw [eo]; exact decide_eq_false (Int32.not_lt.mpr z))) (fun z => r1 (by rw [eo]; exact decide_eq_true (Int32.not_le.mp z)))
  · have eo : sm_ok K A B i V = decide (V a = V b') := by unfold sm_ok; rw [if_neg (by rw [k]; decide), if_pos k, eA, ca, eb, cb]
    have r1 := h2 (two 6 k (by decide))
    have r0 := h2f (two 6 k (by decide))
    rw [mx_act5 (Or.inr (Or.inl k))] at r1
    rw [k]
    refine br_f (by decide) (br_f (by decide) (br_f (by decide) (br_f (by decide) (br_f (by decide) (br_f (by decide) (br_t rfl ?_))))))
    exact br_c (fun z => r1 (by rw [eo]; exact decide_eq_true z)) (fun z => r0 (by rw [eo]; exact decide_eq_false z))
  · have eo : sm_ok K A B i V = decide (¬ V a = V b') := by unfold sm_ok; rw [if_neg (by rw [k]; decide), if_neg (by rw [k]; decide), if_pos k, eA, ca, eb, cb]
    have r1 := h2 (two 7 k (by decide))
    have r0 := h2f (two 7 k (by decide))
    rw [mx_act5 (Or.inr (Or.inr k))] at r1
    rw [k]
    refine br_f (by decide) (br_f (by decide) (br_f (by decide) (br_f (by decide) (br_f (by decide) (br_f (by decide) (br_f (by decide) (br_t rfl ?_)))))))
    exact br_c (fun z => r0 (by rw [eo]; exact decide_eq_false (fun y => y z))) (fun z => r1 (by rw [eo]; exact decide_eq_true z))
  · exact absurd k k8
  · have r := h0 (sm_ty0 (Or.inr (Or.inr k)))
    have ac : sm_act K A B i d V = if d = 0 then upd V a (V a + 1) else upd V b' (V b' + 1) := by
      unfold sm_act
      rw [if_neg k0, if_neg k1, if_neg (by rw [k]; decide), if_neg (by rw [k]; decide), if_neg (by rw [k]; decide), if_pos k, eA, eb, ca, cb]
    rw [ac] at r
    rw [k]
    refine br_f (by decide) (br_f (by decide) (br_f (by decide) (br_t rfl ?_)))
    by_cases d0 : d = 0
    · rw [if_pos d0] at r
      exact br_t (by rw [d0]; rfl) ⟨ia, ia, nm_r (e' := upd V a (V a + 1)) (by rw [ca]) (my_c200 (by decide) (by decide) (by decide) (by decide) r)⟩
    · rw [if_neg d0] at r
      refine br_f (nI_ne0 (by omega) hd) ?_
      rw [and3]
      exact ⟨ib, ib, nm_r (e' := upd V b' (V b' + 1)) (by rw [cb]) (my_c200 (by decide) (by decide) (by decide) (by decide) r)⟩
end
end
section
/-! the reference: one run, begin -/
def my_b (b : Bool) : Int32 := if b = true then 1 else 0
theorem my_b1 {b : Bool} (h : b = true) : my_b b = 1 := if_pos h
theorem my_b0 {b : Bool} (h : ¬ b = true) : my_b b = 0 := if_neg h
def my_Fr (s : Nat) (K A B C : Nat → Int32) (v : SY) : Prop :=
  ∃ (V F : Nat → Int32), v = (nI s, K, A, B, C, V, F) ∧ (∀ j, 4 ≤ j → V j = 0)
section
variable {fs : Int32} {n : Nat} {K A B C : Nat → Int32}
theorem my_run_z (hW : sm_W n K A B C) {c : Nat} : ∀ (m i : Nat) (V F : Nat → Int32), i + m = n → (∀ j, 4 ≤ j → V j = 0) →
    ∀ j, 4 ≤ j → (ss_run (sm_ty K) (sm_w K B C) (sm_act K A B) (sm_ok K A B) m i V F c).2.1 j = 0 := by
  intro m
  induction m with
  | zero => intro i V F _ h; exact h
  | succ m ih =>
    intro i V F hm h
    have wf := hW.2.1 i (by omega)
    rw [ss_run]
    split
    · exact ih _ _ _ (by omega) (sm_act_z wf _ h)
    · split
      · split
        · exact ih _ _ _ (by omega) h
        · exact h
      · split
        · exact ih _ _ _ (by omega) (sm_act_z wf _ h)
        · exact h
theorem my_run0 {post : Int32 → SY → Prop} {x1 x2 x4 : Int32} {V F : Nat → Int32} {k : Nat} (h : post 0 (fs, K, A, B, C, V, F)) : wY_run_25 post x1 x2 (k + 1) 0 x4 fs K A B C V F :=
  br_c (fun _ => ⟨narrow_b0, h⟩) (fun _ => br_t rfl ⟨narrow_b0, h⟩)
theorem my_run25 (hW : sm_W n K A B C) (hp : ∀ j, j < n → 0 < sm_w K B C j) {post : Int32 → SY → Prop} {c : Nat} (hc : c < 2 ^ 31) : ∀ (m k i : Nat) (V F : Nat → Int32), i + m = n → m < k →
    post (my_b (ss_run (sm_ty K) (sm_w K B C) (sm_act K A B) (sm_ok K A B) m i V F c).1)
      (fs, K, A, B, C, (ss_run (sm_ty K) (sm_w K B C) (sm_act K A B) (sm_ok K A B) m i V F c).2.1, (ss_run (sm_ty K) (sm_w K B C) (sm_act K A B) (sm_ok K A B) m i V F c).2.2) →
    wY_run_25 post (nI c) (nI n) k 1 (nI i) fs K A B C V F := by
  have hn := hW.1
  intro m
  induction m with
  | zero =>
    intro k i V F hm hk h
    obtain ⟨k, rfl⟩ : ∃ m, k = m + 1 := ⟨k - 1, by omega⟩
    exact br_t (nI_le (by omega) (by omega)) ⟨narrow_b1, h⟩
  | succ m ih =>
    intro k i V F hm hk h
    obtain ⟨k, rfl⟩ : ∃ m, k = m + 2 := ⟨k - 2, by omega⟩
    have hi : i < n := by omega
    have hPw := sm_P1 hW
    have P0 : 0 < ss_P (sm_w K B C) m (i + 1) := ss_P_pos (e := n) m (i + 1) (by omega) (fun j _ b => hp j b)
    have PL : ss_P (sm_w K B C) m (i + 1) < 2 ^ 31 := by
      have q1 := ss_P_le (sm_w K B C) m (i + 1)
      have q2 := ss_P1_cc (sm_hw K B C) m (i + 1) (fun j _ b => sm_w13 (hW.2.1 j (by omega)))
      have q3 : 1 ≤ 13 ^ ss_cc (sm_ty K) (i + 1) := Nat.one_le_pow _ _ (by decide)
      have q4 : 13 ^ ss_cc (sm_ty K) (i + 1 + m) ≤ 13 ^ 3 := Nat.pow_le_pow_right (by decide) (by rw [show i + 1 + m = n by omega]; exact hW.2.2)
      have q5 : ss_P1 (sm_w K B C) m (i + 1) ≤ ss_P1 (sm_w K B C) m (i + 1) * 13 ^ ss_cc (sm_ty K) (i + 1) := Nat.le_mul_of_pos_right _ q3
      have q6 : (13 : Nat) ^ 3 = 2197 := by decide
      omega
    have w0 := hp i hi
    have w13 := sm_w13 (hW.2.1 i hi)
    generalize hb : c / ss_P (sm_w K B C) m (i + 1) = b at h
    have bc : b < 2 ^ 31 := by rw [← hb]; exact Nat.lt_of_le_of_lt (Nat.div_le_self _ _) hc
    rw [ss_run, hb] at h
    refine br_f (nI_ge (by omega) (by omega)) (br_f (by decide) ?_)
    show wpY_between _ _ (nI i + 1) (nI n)
    rw [nI_1 i]
    refine my_between hn hW.2.1 (by omega) (my_options (by omega) (hW.2.1 i hi) ?_)
    rw [show n - (i + 1) = m by omega]
    refine br_f (nI_nle P0 PL) ⟨nI_ne0 P0 PL, br_f (nI_nle w0 (by omega)) ⟨nI_ne0 w0 (by omega), ?_⟩⟩
    rw [pk_div hc P0 PL, hb, pk_rem bc w0 (by omega)]
    have hd : b % sm_w K B C i < 2 ^ 31 := Nat.lt_of_le_of_lt (Nat.mod_le _ _) bc
    refine my_carry (by omega) hd (hW.2.1 i hi) ?_ ?_ ?_ ?_
    · intro t
      rw [if_pos t] at h
      exact nm_r (nI_1 i) (ih (k + 1) (i + 1) _ _ (by omega) (by omega) h)
    · intro t
      rw [if_neg (by omega), if_pos t] at h
      by_cases q : ss_mark F i b i = nI b
      · rw [if_pos q] at h ⊢
        exact nm_r (nI_1 i) (ih (k + 1) (i + 1) _ _ (by omega) (by omega) h)
      · rw [if_neg q] at h ⊢
        exact nm_r (nI_1 i) (my_run0 h)
    · intro t o
      rw [if_neg (by omega), if_neg (by omega), if_pos o] at h
      exact nm_r (nI_1 i) (ih (k + 1) (i + 1) _ _ (by omega) (by omega) h)
    · intro t o
      rw [if_neg (by omega), if_neg (by omega), if_neg (by rw [o]; decide)] at h
      exact nm_r (nI_1 i) (my_run0 h)
theorem my_run2 {post : Int32 → SY → Prop} {x1 x2 : Int32} {F : Nat → Int32} : ∀ (d j : Nat) (V : Nat → Int32), j + d = 4 →
    (∀ V' : Nat → Int32, (∀ x, j ≤ x → x < 4 → V' x = 0) → (∀ x, x < j ∨ 4 ≤ x → V' x = V x) → ∃ k, wY_run_25 post x1 x2 k 1 0 fs K A B C V' F) →
    wY_run_2 post x1 x2 fs (d + 1) (nI j) K A B C V F := by
  intro d
  induction d with
  | zero =>
    intro j V hj h
    exact br_t (nI_le (a := 4) (by omega) (by omega)) (h V (fun x a b => by omega) (fun x _ => rfl))
  | succ d ih =>
    intro j V hj h
    have cj : (nI j).toNatClampNeg = j := nI_clamp (by omega)
    refine br_f (nI_ge (b := 4) (by omega) (by omega)) ⟨vp_in_nI (by omega) (by omega), nm_r (e' := upd V j 0) (by rw [cj]) (nm_r (nI_1 j) ?_)⟩
    refine ih (j + 1) (upd V j 0) (by omega) (fun V' a b => h V' ?_ ?_)
    · intro x x1 x2
      by_cases e : x = j
      · subst e
        rw [b x (by omega)]
        exact pk_us
      · exact a x (by omega) x2
    · intro x hx
      rw [b x (by omega)]
      exact pk_un (by omega)
theorem my_run (hW : sm_W n K A B C) (hp : ∀ j, j < n → 0 < sm_w K B C j) {post : Int32 → SY → Prop} {c : Nat} (hc : c < 2 ^ 31) {V F : Nat → Int32} (hz : ∀ j, 4 ≤ j → V j = 0)
    (h : post (my_b (ss_run (sm_ty K) (sm_w K B C) (sm_act K A B) (sm_ok K A B) n 0 (fun _ => 0) F c).1)
      (fs, K, A, B, C, (ss_run (sm_ty K) (sm_w K B C) (sm_act K A B) (sm_ok K A B) n 0 (fun _ => 0) F c).2.1, (ss_run (sm_ty K) (sm_w K B C) (sm_act K A B) (sm_ok K A B) n 0 (fun _ => 0) F c).2.2)) :
    wpY_run post (fs, K, A, B, C, V, F) (nI c) (nI n) := by
  refine ⟨5, my_run2 4 0 V rfl (fun V' a b => ⟨n + 1, ?_⟩)⟩
  have e : V' = fun _ => 0 := by
    funext x
    by_cases hx : x < 4
    · exact a x (Nat.zero_le _) hx
    · rw [b x (by omega)]
      exact hz x (by omega)
  subst e
  exact my_run25 hW hp hc n (n + 1) 0 _ F (Nat.zero_add n) (Nat.lt_succ_self n) h
theorem my_begin0 {post : SY → Prop} {V : Nat → Int32} : ∀ (d j : Nat) (F : Nat → Int32), j + d = 14 →
    (∀ F' : Nat → Int32, (∀ x, j ≤ x → x < 14 → F' x = -1) → (∀ x, x < j → F' x = F x) → post (fs, K, A, B, C, V, F')) →
    wY_begin_2 post fs (d + 1) (nI j) K A B C V F := by
  intro d
  induction d with
  | zero =>
    intro j F hj h
    exact br_t (nI_le (a := 14) (by omega) (by omega)) (h F (fun x a b => by omega) (fun x _ => rfl))
  | succ d ih =>
    intro j F hj h
    have cj : (nI j).toNatClampNeg = j := nI_clamp (by omega)
    refine br_f (nI_ge (b := 14) (by omega) (by omega)) ⟨vp_in_nI (by omega) (by omega), nm_r (e' := upd F j (-1)) (by rw [cj]) (nm_r (nI_1 j) ?_)⟩
    refine ih (j + 1) (upd F j (-1)) (by omega) (fun F' a b => h F' ?_ ?_)
    · intro x x1 x2
      by_cases e : x = j
      · subst e
        rw [b x (by omega)]
        exact pk_us
      · exact a x (by omega) x2
    · intro x hx
      rw [b x (by omega)]
      exact pk_un (by omega)
theorem my_begin {post : SY → Prop} {V F : Nat → Int32} (h : ∀ F' : Nat → Int32, (∀ x, x < 14 → F' x = -1) → post (fs, K, A, B, C, V, F')) : wpY_begin post (fs, K, A, B, C, V, F) :=
  ⟨15, my_begin0 14 0 F rfl (fun F' a _ => h F' (fun x hx => a x (Nat.zero_le _) hx))⟩
/-- all ways of all steps before n are there while a code is left -/
theorem my_pos (h : 0 < ss_P (sm_w K B C) n 0) : ∀ j, j < n → 0 < sm_w K B C j := by
  have pos : ∀ m i, 0 < ss_P (sm_w K B C) m i → ∀ j, i ≤ j → j < i + m → 0 < sm_w K B C j := by
    intro m
    induction m with
    | zero => intro i _ j a b; omega
    | succ m ih =>
      intro i h j a b
      rw [ss_P] at h
      by_cases ej : j = i
      · subst ej
        exact Nat.pos_of_mul_pos_right h
      · exact ih (i + 1) (Nat.pos_of_mul_pos_left h) j (by omega) (by omega)
  exact fun j hj => pos n 0 h j (Nat.zero_le _) (by omega)
end
end
section
/-! what is asked of the list of answers; the component's loops -/
def qq_cnt (v : Nat) (x : Int32) : List (Nat → Int32) → Nat
  | [] => 0
  | V :: L => (if V v = x then 1 else 0) + qq_cnt v x L
def qq_fst (v : Nat) (x : Int32) : List (Nat → Int32) → Nat → Int32
  | [], _ => -1
  | V :: L, k => if V v = x then nI k else qq_fst v x L (k + 1)
def qq_val (v : Nat) : List (Nat → Int32) → Nat → Int32
  | [], _ => -1000000000
  | V :: _, 0 => V v
  | _ :: L, k + 1 => qq_val v L k
def qq_bet (w x b : Int32) : Bool := if w = 0 then decide (x < b) else decide (b < x)
def qq_ext (v : Nat) (w : Int32) : List (Nat → Int32) → Int32 → Bool → Int32
  | [], b, _ => b
  | V :: L, b, f => qq_ext v w L (if f = false ∨ qq_bet w (V v) b = true then V v else b) true
section
variable {n s : Nat} {K A B C : Nat → Int32}
theorem mx_A_V {V : Nat → Int32} {L : List (Nat → Int32)} {u : SX} (h : mx_A n s K A B C V L u) : ∃ (fs fa fe ft fo : Int32) (K A B C tv tx os ow ot : Nat → Int32), u = (fs, fa, fe, ft, fo, K, A, B, C, V, tv, tx, os, ow, ot) := by
  obtain ⟨S, I, _, _⟩ := h
  obtain ⟨_, _, _, _, _, _, _, q, _⟩ := I
  exact ⟨_, _, _, _, _, _, _, _, _, _, _, _, _, _, q⟩
theorem mx_A_Fr {V : Nat → Int32} {L : List (Nat → Int32)} {u : SX} (h : mx_A n s K A B C V L u) : mx_Fr s K A B C u := by
  obtain ⟨S, I, _, _⟩ := h
  exact mx_I_Fr I
theorem mx_Q_nil {r : Int32} {u : SX} (h : mx_Q n s K A B C [] r u) : r = 0 ∧ mx_Fr s K A B C u := by
  rcases h with ⟨_, a, b⟩ | ⟨V, L', e, _⟩
  · exact ⟨a, b⟩
  · exact absurd e (by simp)
theorem mx_Q_cons {V : Nat → Int32} {L : List (Nat → Int32)} {r : Int32} {u : SX} (h : mx_Q n s K A B C (V :: L) r u) : r = 1 ∧ mx_A n s K A B C V L u := by
  rcases h with ⟨e, _⟩ | ⟨V', L', e, a, b⟩
  · exact absurd e (by simp)
  · have e1 : V = V' := (List.cons.inj e).1
    have e2 : L = L' := (List.cons.inj e).2
    subst e1 e2
    exact ⟨a, b⟩
/-- start and the first advance -/
theorem mx_open (hW : sm_W n K A B C) {u : SX} (h : mx_Fr s K A B C u) {post : SX → Prop} (hp : ∀ u', (∀ post' : Int32 → SX → Prop, (∀ r u'', mx_Q n s K A B C (sm_L n K A B C) r u'' → post' r u'') → wpX_advance post' u' 1) → post u') :
    wpX_start post u (nI n) :=
  mx_start h (fun u' I => hp u' (fun _ q => mx_first hW I q))
def mq_cnt (post : Int32 → SX → Prop) (n : Nat) (x2 x3 x4 : Int32) (u : SX) : Prop := match u with
  | (fs, fa, fe, ft, fo, K, A, B, C, V, tv, tx, os, ow, ot) => wX_countAnswers_16 post n x2 x3 x4 fs fa fe ft fo K A B C V tv tx os ow ot
theorem mq_cnt_l (hW : sm_W n K A B C) {post : Int32 → SX → Prop} : ∀ (L : List (Nat → Int32)) (fuel k acc : Nat) (r : Int32) (u : SX), mx_Q n s K A B C L r u → L.length < fuel → k + L.length < 2200 →
    (∀ u', mx_Fr s K A B C u' → post (nI (acc + L.length)) u') → mq_cnt post fuel (nI acc) r (nI k) u := by
  intro L
  induction L with
  | nil =>
    intro fuel k acc r u q hf hk h
    obtain ⟨fuel, rfl⟩ : ∃ m, fuel = m + 1 := ⟨fuel - 1, by omega⟩
    obtain ⟨rfl, fr⟩ := mx_Q_nil q
    have h' := h u fr
    obtain ⟨y1, y2, y3, y4, y5, y6, y7, y8, y9, y10, y11, y12, y13, y14, y15⟩ := u
    exact br_c (fun _ => h') (fun _ => br_t rfl h')
  | cons V L ih =>
    intro fuel k acc r u q hf hk h
    rw [List.length_cons] at hf hk h
    obtain ⟨fuel, rfl⟩ : ∃ m, fuel = m + 1 := ⟨fuel - 1, by omega⟩
    obtain ⟨rfl, a⟩ := mx_Q_cons q
    obtain ⟨y1, y2, y3, y4, y5, y6, y7, y8, y9, y10, y11, y12, y13, y14, y15⟩ := u
    refine br_f (nI_ge (b := 2200) (by omega) (by decide)) (br_f (by decide) (nm_r (nI_1 acc) (mx_next hW a ?_)))
    intro r' u' q'
    obtain ⟨x1, x2, x3, x4, x5, x6, x7, x8, x9, x10, x11, x12, x13, x14, x15⟩ := u'
    refine nm_r (nI_1 k) (ih fuel (k + 1) (acc + 1) r' _ q' (by omega) (by omega) ?_)
    intro u' fr
    rw [show acc + 1 + L.length = acc + (L.length + 1) by omega]
    exact h u' fr
theorem mq_countAnswers (hW : sm_W n K A B C) {u : SX} (fr : mx_Fr s K A B C u) {post : Int32 → SX → Prop} (h : ∀ u', mx_Fr s K A B C u' → post (nI (sm_L n K A B C).length) u') : wpX_countAnswers post u (nI n) := by
  obtain ⟨y1, y2, y3, y4, y5, y6, y7, y8, y9, y10, y11, y12, y13, y14, y15⟩ := u
  have hl := sm_L_len hW
  obtain ⟨N, hN⟩ : ∃ N, N = (sm_L n K A B C).length + 1 := ⟨_, rfl⟩
  refine mx_open hW fr (fun u' O => ?_)
  obtain ⟨x1, x2, x3, x4, x5, x6, x7, x8, x9, x10, x11, x12, x13, x14, x15⟩ := u'
  refine O _ (fun r u'' q => ?_)
  obtain ⟨z1, z2, z3, z4, z5, z6, z7, z8, z9, z10, z11, z12, z13, z14, z15⟩ := u''
  refine ⟨N, mq_cnt_l hW (sm_L n K A B C) N 0 0 r _ q (by omega) (by omega) (fun u' fr' => ?_)⟩
  rw [Nat.zero_add]
  exact h u' fr'
theorem mq_answers (hW : sm_W s K A B C) {u : SX} (fr : mx_Fr s K A B C u) {post : Int32 → SX → Prop} (h : ∀ u', mx_Fr s K A B C u' → post (nI (sm_L s K A B C).length) u') : wpX_answers post u := by
  have fr' := fr
  obtain ⟨fa, fe, ft, fo, V, tv, tx, os, ow, ot, rfl, hz⟩ := fr
  unfold wpX_answers
  dsimp only
  refine mq_countAnswers hW fr' (fun u' f => ?_)
  obtain ⟨z1, z2, z3, z4, z5, z6, z7, z8, z9, z10, z11, z12, z13, z14, z15⟩ := u'
  exact h _ f
theorem mq_ways (hW : sm_W s K A B C) {u : SX} (fr : mx_Fr s K A B C u) {p : Int32} {post : Int32 → SX → Prop} (h0 : (¬ ∃ n, n ≤ s ∧ p = nI n) → post (-1) u)
    (h : ∀ n, n ≤ s → p = nI n → ∀ u', mx_Fr s K A B C u' → post (nI (sm_L n K A B C).length) u') : wpX_ways post u p := by
  have fr' := fr
  have hs := hW.1
  obtain ⟨fa, fe, ft, fo, V, tv, tx, os, ow, ot, rfl, hz⟩ := fr
  unfold wpX_ways
  dsimp only
  by_cases e : ∃ n, n ≤ s ∧ p = nI n
  · obtain ⟨n, hn, rfl⟩ := e
    refine br_f (nI_pos (by omega)) (br_t (nI_le hn (by omega)) ?_)
    refine mq_countAnswers (sm_W_le hW hn) fr' (fun u' f => ?_)
    obtain ⟨z1, z2, z3, z4, z5, z6, z7, z8, z9, z10, z11, z12, z13, z14, z15⟩ := u'
    exact h n hn rfl _ f
  · refine br_c (fun _ => h0 e) (fun c => br_f (fun d => e ?_) (h0 e))
    obtain ⟨j, hj, rfl⟩ := nI_of c
    exact ⟨j, (nI_leI hj (by omega)).mp d, rfl⟩
theorem mq_isv {p : Int32} {post : Int32 → Prop} (h1 : (∃ v, v < 4 ∧ p = nI v) → post 1) (h0 : (¬ ∃ v, v < 4 ∧ p = nI v) → post 0) : wpX_isVariable post p := by
  refine br_c (fun c => h0 ?_) (fun c => br_c (fun d => h0 ?_) (fun d => h1 ?_))
  · rintro ⟨v, hv, rfl⟩
    exact nI_pos (by omega) c
  · rintro ⟨v, hv, rfl⟩
    exact nI_ge (b := 4) hv (by omega) d
  · obtain ⟨j, hj, rfl⟩ := nI_of c
    refine ⟨j, Nat.lt_of_not_le (fun z => d (nI_le (a := 4) z hj)), rfl⟩
end
end
section
/-! the component: value, countWith, firstWith, extreme -/
def mq_val (post : Int32 → SX → Prop) (p0 p1 : Int32) (n : Nat) (x3 x4 : Int32) (u : SX) : Prop := match u with
  | (fs, fa, fe, ft, fo, K, A, B, C, V, tv, tx, os, ow, ot) => wX_value_31 post p0 p1 n x3 x4 fs fa fe ft fo K A B C V tv tx os ow ot
def mq_cw (post : Int32 → SX → Prop) (p0 p1 : Int32) (n : Nat) (x3 x4 x5 : Int32) (u : SX) : Prop := match u with
  | (fs, fa, fe, ft, fo, K, A, B, C, V, tv, tx, os, ow, ot) => wX_countWith_29 post p0 p1 n x3 x4 x5 fs fa fe ft fo K A B C V tv tx os ow ot
def mq_fw (post : Int32 → SX → Prop) (p0 p1 : Int32) (n : Nat) (x3 x4 : Int32) (u : SX) : Prop := match u with
  | (fs, fa, fe, ft, fo, K, A, B, C, V, tv, tx, os, ow, ot) => wX_firstWith_26 post p0 p1 n x3 x4 fs fa fe ft fo K A B C V tv tx os ow ot
def mq_ex (post : Int32 → SX → Prop) (p0 p1 : Int32) (n : Nat) (x3 x4 x5 : Int32) (u : SX) : Prop := match u with
  | (fs, fa, fe, ft, fo, K, A, B, C, V, tv, tx, os, ow, ot) => wX_extreme_40 post p0 p1 n x3 x4 x5 fs fa fe ft fo K A B C V tv tx os ow ot
section
variable {n s : Nat} {K A B C : Nat → Int32}
theorem mq_val_l (hW : sm_W n K A B C) {post : Int32 → SX → Prop} {v kk : Nat} (hv : v < 4) (hkk : kk < 2 ^ 31) : ∀ (L : List (Nat → Int32)) (fuel k : Nat) (r : Int32) (u : SX), mx_Q n s K A B C L r u → L.length < fuel → k ≤ kk →
    (∀ u', mx_Fr s K A B C u' → post (qq_val v L (kk - k)) u') → mq_val post (nI kk) (nI v) fuel r (nI k) u := by
  intro L
  induction L with
  | nil =>
    intro fuel k r u q hf hk h
    obtain ⟨fuel, rfl⟩ : ∃ m, fuel = m + 1 := ⟨fuel - 1, by omega⟩
    obtain ⟨rfl, fr⟩ := mx_Q_nil q
    have h' := h u fr
    obtain ⟨y1, y2, y3, y4, y5, y6, y7, y8, y9, y10, y11, y12, y13, y14, y15⟩ := u
    have h'' : post (-1000000000) (y1, y2, y3, y4, y5, y6, y7, y8, y9, y10, y11, y12, y13, y14, y15) := by
      rw [qq_val] at h'
      exact h'
    exact br_c (fun _ => br_t rfl h'') (fun _ => br_t rfl (br_t rfl h''))
  | cons V L ih =>
    intro fuel k r u q hf hk h
    rw [List.length_cons] at hf
    obtain ⟨fuel, rfl⟩ : ∃ m, fuel = m + 1 := ⟨fuel - 1, by omega⟩
    obtain ⟨rfl, a⟩ := mx_Q_cons q
    have fr := mx_A_Fr a
    obtain ⟨fs, fa, fe, ft, fo, K', A', B', C', tv, tx, os, ow, ot, rfl⟩ := mx_A_V a
    by_cases e : k = kk
    · subst e
      have h' := h _ fr
      rw [Nat.sub_self, qq_val] at h'
      refine br_t (nI_le (Nat.le_refl _) hkk) (br_f (by decide) ⟨vp_in_nI hv (by omega), ?_⟩)
      rw [nI_clamp (by omega)]
      exact h'
    · refine br_f (nI_ge (by omega) hkk) (br_f (by decide) (mx_next hW a ?_))
      intro r' u' q'
      obtain ⟨x1, x2, x3, x4, x5, x6, x7, x8, x9, x10, x11, x12, x13, x14, x15⟩ := u'
      refine nm_r (nI_1 k) (ih fuel (k + 1) r' _ q' (by omega) (by omega) ?_)
      intro u' fr
      have h' := h u' fr
      rw [show kk - k = (kk - (k + 1)) + 1 by omega, qq_val] at h'
      exact h'
theorem mq_value (hW : sm_W s K A B C) {u : SX} (fr : mx_Fr s K A B C u) {p0 p1 : Int32} {post : Int32 → SX → Prop}
    (h0 : (¬ ∃ v, v < 4 ∧ p1 = nI v) → post (-1000000000) u) (hn : p0 < 0 → post (-1000000000) u)
    (h : ∀ v k, v < 4 → k < 2 ^ 31 → p1 = nI v → p0 = nI k → ∀ u', mx_Fr s K A B C u' → post (qq_val v (sm_L s K A B C) k) u') : wpX_value post u p0 p1 := by
  have fr' := fr
  obtain ⟨fa, fe, ft, fo, V, tv, tx, os, ow, ot, rfl, hz⟩ := fr
  unfold wpX_value
  dsimp only
  refine br_c hn (fun c => ?_)
  refine mq_isv (fun e => br_f (by decide) ?_) (fun e => br_t rfl (h0 e))
  obtain ⟨v, hv, rfl⟩ := e
  obtain ⟨k, hk, rfl⟩ := nI_of c
  obtain ⟨N, hN⟩ : ∃ N, N = (sm_L s K A B C).length + 1 := ⟨_, rfl⟩
  refine mx_open hW fr' (fun u' O => ?_)
  obtain ⟨x1, x2, x3, x4, x5, x6, x7, x8, x9, x10, x11, x12, x13, x14, x15⟩ := u'
  refine O _ (fun r u'' q => ?_)
  obtain ⟨z1, z2, z3, z4, z5, z6, z7, z8, z9, z10, z11, z12, z13, z14, z15⟩ := u''
  exact ⟨N, mq_val_l hW hv hk (sm_L s K A B C) N 0 r _ q (by omega) (Nat.zero_le _) (h v k hv hk rfl rfl)⟩
theorem mq_cw_l (hW : sm_W n K A B C) {post : Int32 → SX → Prop} {v : Nat} {x : Int32} (hv : v < 4) : ∀ (L : List (Nat → Int32)) (fuel k acc : Nat) (r : Int32) (u : SX), mx_Q n s K A B C L r u → L.length < fuel → k + L.length < 2200 →
    (∀ u', mx_Fr s K A B C u' → post (nI (acc + qq_cnt v x L)) u') → mq_cw post (nI v) x fuel (nI acc) r (nI k) u := by
  intro L
  induction L with
  | nil =>
    intro fuel k acc r u q hf hk h
    obtain ⟨fuel, rfl⟩ : ∃ m, fuel = m + 1 := ⟨fuel - 1, by omega⟩
    obtain ⟨rfl, fr⟩ := mx_Q_nil q
    have h' := h u fr
    obtain ⟨y1, y2, y3, y4, y5, y6, y7, y8, y9, y10, y11, y12, y13, y14, y15⟩ := u
    exact br_c (fun _ => h') (fun _ => br_t rfl h')
  | cons V L ih =>
    intro fuel k acc r u q hf hk h
    rw [List.length_cons] at hf hk
    obtain ⟨fuel, rfl⟩ : ∃ m, fuel = m + 1 := ⟨fuel - 1, by omega⟩
    obtain ⟨rfl, a⟩ := mx_Q_cons q
    obtain ⟨fs, fa, fe, ft, fo, K', A', B', C', tv, tx, os, ow, ot, rfl⟩ := mx_A_V a
    refine br_f (nI_ge (b := 2200) (by omega) (by decide)) (br_f (by decide) ⟨vp_in_nI hv (by omega), ?_⟩)
    rw [nI_clamp (n := v) (by omega)]
    rw [qq_cnt] at h
    refine br_c (fun e => nm_r (nI_1 acc) (mx_next hW a ?_)) (fun e => nm_r (Int32.add_zero (nI acc)) (mx_next hW a ?_))
    · rw [if_pos e] at h
      intro r' u' q'
      obtain ⟨x1, x2, x3, x4, x5, x6, x7, x8, x9, x10, x11, x12, x13, x14, x15⟩ := u'
      refine nm_r (nI_1 k) (ih fuel (k + 1) (acc + 1) r' _ q' (by omega) (by omega) ?_)
      intro u' fr
      rw [show acc + 1 + qq_cnt v x L = acc + (1 + qq_cnt v x L) by omega]
      exact h u' fr
    · rw [if_neg e, Nat.zero_add] at h
      intro r' u' q'
      obtain ⟨x1, x2, x3, x4, x5, x6, x7, x8, x9, x10, x11, x12, x13, x14, x15⟩ := u'
      exact nm_r (nI_1 k) (ih fuel (k + 1) acc r' _ q' (by omega) (by omega) h)
theorem mq_countWith (hW : sm_W s K A B C) {u : SX} (fr : mx_Fr s K A B C u) {p0 p1 : Int32} {post : Int32 → SX → Prop}
    (h0 : (¬ ∃ v, v < 4 ∧ p0 = nI v) → post 0 u)
    (h : ∀ v, v < 4 → p0 = nI v → ∀ u', mx_Fr s K A B C u' → post (nI (qq_cnt v p1 (sm_L s K A B C))) u') : wpX_countWith post u p0 p1 := by
  have fr' := fr
  obtain ⟨fa, fe, ft, fo, V, tv, tx, os, ow, ot, rfl, hz⟩ := fr
  unfold wpX_countWith
  dsimp only
  refine mq_isv (fun e => br_f (by decide) ?_) (fun e => br_t rfl (h0 e))
  obtain ⟨v, hv, rfl⟩ := e
  have hl := sm_L_len hW
  obtain ⟨N, hN⟩ : ∃ N, N = (sm_L s K A B C).length + 1 := ⟨_, rfl⟩
  refine mx_open hW fr' (fun u' O => ?_)
  obtain ⟨x1, x2, x3, x4, x5, x6, x7, x8, x9, x10, x11, x12, x13, x14, x15⟩ := u'
  refine O _ (fun r u'' q => ?_)
  obtain ⟨z1, z2, z3, z4, z5, z6, z7, z8, z9, z10, z11, z12, z13, z14, z15⟩ := u''
  refine ⟨N, mq_cw_l hW hv (sm_L s K A B C) N 0 0 r _ q (by omega) (by omega) (fun u' fr' => ?_)⟩
  rw [Nat.zero_add]
  exact h v hv rfl u' fr'
theorem mq_fw_l (hW : sm_W n K A B C) {post : Int32 → SX → Prop} {v : Nat} {x : Int32} (hv : v < 4) : ∀ (L : List (Nat → Int32)) (fuel k : Nat) (r : Int32) (u : SX), mx_Q n s K A B C L r u → L.length < fuel → k + L.length < 2200 →
    (∀ u', mx_Fr s K A B C u' → post (qq_fst v x L k) u') → mq_fw post (nI v) x fuel r (nI k) u := by
  intro L
  induction L with
  | nil =>
    intro fuel k r u q hf hk h
    obtain ⟨fuel, rfl⟩ : ∃ m, fuel = m + 1 := ⟨fuel - 1, by omega⟩
    obtain ⟨rfl, fr⟩ := mx_Q_nil q
    have h' := h u fr
    rw [qq_fst] at h'
    obtain ⟨y1, y2, y3, y4, y5, y6, y7, y8, y9, y10, y11, y12, y13, y14, y15⟩ := u
    exact br_c (fun _ => h') (fun _ => br_t rfl h')
  | cons V L ih =>
    intro fuel k r u q hf hk h
    rw [List.length_cons] at hf hk
    obtain ⟨fuel, rfl⟩ : ∃ m, fuel = m + 1 := ⟨fuel - 1, by omega⟩
    obtain ⟨rfl, a⟩ := mx_Q_cons q
    have fr := mx_A_Fr a
    obtain ⟨fs, fa, fe, ft, fo, K', A', B', C', tv, tx, os, ow, ot, rfl⟩ := mx_A_V a
    refine br_f (nI_ge (b := 2200) (by omega) (by decide)) (br_f (by decide) ⟨vp_in_nI hv (by omega), ?_⟩)
    rw [nI_clamp (n := v) (by omega)]
    rw [qq_fst] at h
    refine br_c (fun e => ?_) (fun e => mx_next hW a ?_)
    · rw [if_pos e] at h
      exact h _ fr
    · rw [if_neg e] at h
      intro r' u' q'
      obtain ⟨x1, x2, x3, x4, x5, x6, x7, x8, x9, x10, x11, x12, x13, x14, x15⟩ := u'
      exact nm_r (nI_1 k) (ih fuel (k + 1) r' _ q' (by omega) (by omega) h)
theorem mq_firstWith (hW : sm_W s K A B C) {u : SX} (fr : mx_Fr s K A B C u) {p0 p1 : Int32} {post : Int32 → SX → Prop}
    (h0 : (¬ ∃ v, v < 4 ∧ p0 = nI v) → post (-1) u)
    (h : ∀ v, v < 4 → p0 = nI v → ∀ u', mx_Fr s K A B C u' → post (qq_fst v p1 (sm_L s K A B C) 0) u') : wpX_firstWith post u p0 p1 := by
  have fr' := fr
  obtain ⟨fa, fe, ft, fo, V, tv, tx, os, ow, ot, rfl, hz⟩ := fr
  unfold wpX_firstWith
  dsimp only
  refine mq_isv (fun e => br_f (by decide) ?_) (fun e => br_t rfl (h0 e))
  obtain ⟨v, hv, rfl⟩ := e
  have hl := sm_L_len hW
  obtain ⟨N, hN⟩ : ∃ N, N = (sm_L s K A B C).length + 1 := ⟨_, rfl⟩
  refine mx_open hW fr' (fun u' O => ?_)
  obtain ⟨x1, x2, x3, x4, x5, x6, x7, x8, x9, x10, x11, x12, x13, x14, x15⟩ := u'
  refine O _ (fun r u'' q => ?_)
  obtain ⟨z1, z2, z3, z4, z5, z6, z7, z8, z9, z10, z11, z12, z13, z14, z15⟩ := u''
  exact ⟨N, mq_fw_l hW hv (sm_L s K A B C) N 0 r _ q (by omega) (by omega) (h v hv rfl)⟩
theorem mq_ex_l (hW : sm_W n K A B C) {post : Int32 → SX → Prop} {v : Nat} {w : Int32} (hv : v < 4) : ∀ (L : List (Nat → Int32)) (fuel k : Nat) (b r : Int32) (u : SX), mx_Q n s K A B C L r u → L.length < fuel → k + L.length < 2200 →
    (∀ u', mx_Fr s K A B C u' → post (qq_ext v w L b (decide (0 < k))) u') → mq_ex post (nI v) w fuel b r (nI k) u := by
  intro L
  induction L with
  | nil =>
    intro fuel k b r u q hf hk h
    obtain ⟨fuel, rfl⟩ : ∃ m, fuel = m + 1 := ⟨fuel - 1, by omega⟩
    obtain ⟨rfl, fr⟩ := mx_Q_nil q
    have h' := h u fr
    rw [qq_ext] at h'
    obtain ⟨y1, y2, y3, y4, y5, y6, y7, y8, y9, y10, y11, y12, y13, y14, y15⟩ := u
    exact br_c (fun _ => h') (fun _ => br_t rfl h')
  | cons V L ih =>
    intro fuel k b r u q hf hk h
    rw [List.length_cons] at hf hk
    obtain ⟨fuel, rfl⟩ : ∃ m, fuel = m + 1 := ⟨fuel - 1, by omega⟩
    obtain ⟨rfl, a⟩ := mx_Q_cons q
    obtain ⟨fs, fa, fe, ft, fo, K', A', B', C', tv, tx, os, ow, ot, rfl⟩ := mx_A_V a
    rw [qq_ext] at h
    have go : ∀ z : Int32, (if decide (0 < k) = false ∨ qq_bet w (V v) b = true then V v else b) = z → wX_extreme_108 post (wX_extreme_40 post (nI v) w fuel) (nI v) w (nI k) z fs fa fe ft fo K' A' B' C' V tv tx os ow ot := by
      intro z ez
      rw [ez] at h
      refine mx_next hW a ?_
      intro r' u' q'
      obtain ⟨x1, x2, x3, x4, x5, x6, x7, x8, x9, x10, x11, x12, x13, x14, x15⟩ := u'
      refine nm_r (nI_1 k) (ih fuel (k + 1) z r' _ q' (by omega) (by omega) ?_)
      rw [decide_eq_true (Nat.succ_pos k)]
      exact h
    have g90 : ∀ z0 : Int32, (z0 = 0 → qq_bet w (V v) b = false) → (¬ z0 = 0 → qq_bet w (V v) b = true) → wX_extreme_90 post (wX_extreme_40 post (nI v) w fuel) (nI v) w b (nI k) (V v) z0 fs fa fe ft fo K' A' B' C' V tv tx os ow ot := by
      intro z0 za zb
      by_cases k0 : k = 0
      · exact br_t (by rw [k0]; rfl) (go (V v) (if_pos (Or.inl (by rw [k0]; rfl))))
      · refine br_f (nI_ne0 (by omega) (by omega)) (br_c (fun e => go b (if_neg ?_)) (fun e => go (V v) (if_pos (Or.inr (zb e)))))
        rintro (c | c)
        · exact absurd c (by rw [decide_eq_true (by omega : 0 < k)]; decide)
        · rw [za e] at c
          exact absurd c (by decide)
    refine br_f (nI_ge (b := 2200) (by omega) (by decide)) (br_f (by decide) ⟨vp_in_nI hv (by omega), nm_r (e' := V v) (by rw [nI_clamp (n := v) (by omega)]) ?_⟩)
    refine br_c (fun w0 => br_c (fun c => g90 0 (fun _ => ?_) (fun z => absurd rfl z)) (fun c => g90 1 (fun z => absurd z (by decide)) (fun _ => ?_))) (fun w0 => br_c (fun c => g90 0 (fun _ => ?_) (fun z => absurd rfl z)) (fun c => g90 1 (fun z => absurd z (by decide)) (fun _ => ?_)))
    · unfold qq_bet; rw [if_pos w0]; exact decide_eq_false (Int32.not_lt.mpr c)
    · unfold qq_bet; rw [if_pos w0]; exact decide_eq_true (Int32.not_le.mp c)
    · unfold qq_bet; rw [if_neg w0]; exact decide_eq_false (Int32.not_lt.mpr c)
    · unfold qq_bet; rw [if_neg w0]; exact decide_eq_true (Int32.not_le.mp c)
theorem mq_extreme (hW : sm_W s K A B C) {u : SX} (fr : mx_Fr s K A B C u) {p0 p1 : Int32} {post : Int32 → SX → Prop}
    (h0 : (¬ ∃ v, v < 4 ∧ p0 = nI v) → post (-1000000000) u) (h1 : ¬ (p1 = 0 ∨ p1 = 1) → post (-1000000000) u)
    (h : ∀ v, v < 4 → p0 = nI v → (p1 = 0 ∨ p1 = 1) → ∀ u', mx_Fr s K A B C u' → post (qq_ext v p1 (sm_L s K A B C) (-1000000000) false) u') : wpX_extreme post u p0 p1 := by
  have fr' := fr
  obtain ⟨fa, fe, ft, fo, V, tv, tx, os, ow, ot, rfl, hz⟩ := fr
  unfold wpX_extreme
  dsimp only
  refine mq_isv (fun e => br_f (by decide) ?_) (fun e => br_t rfl (h0 e))
  obtain ⟨v, hv, rfl⟩ := e
  refine br_c (fun c => h1 ?_) (fun c => br_c (fun d => ?_) (fun d => h1 ?_))
  · rintro (e | e) <;> rw [e] at c <;> exact absurd c (by decide)
  · have e01 : p1 = 0 ∨ p1 = 1 := by
      obtain ⟨j, hj, rfl⟩ := nI_of c
      have := (nI_leI (b := 1) hj (by omega)).mp d
      have : j = 0 ∨ j = 1 := by omega
      rcases this with rfl | rfl
      · exact Or.inl rfl
      · exact Or.inr rfl
    have hl := sm_L_len hW
    obtain ⟨N, hN⟩ : ∃ N, N = (sm_L s K A B C).length + 1 := ⟨_, rfl⟩
    refine mx_open hW fr' (fun u' O => ?_)
    obtain ⟨x1, x2, x3, x4, x5, x6, x7, x8, x9, x10, x11, x12, x13, x14, x15⟩ := u'
    refine O _ (fun r u'' q => ?_)
    obtain ⟨z1, z2, z3, z4, z5, z6, z7, z8, z9, z10, z11, z12, z13, z14, z15⟩ := u''
    exact ⟨N, mq_ex_l hW hv (sm_L s K A B C) N 0 (-1000000000) r _ q (by omega) (by omega) (h v hv rfl e01)⟩
  · rintro (e | e) <;> rw [e] at d <;> exact absurd (by decide) d
end
end
section
/-! the reference: the loops over all codes -/
/-- the answers of k codes from c on, with the marks F -/
def my_L (n : Nat) (K A B C : Nat → Int32) (k c : Nat) (F : Nat → Int32) : List (Nat → Int32) :=
  (ss_blk (sm_ty K) (sm_w K B C) (sm_act K A B) (sm_ok K A B) n 0 (fun _ => 0) k c F).1
/-- as value looks for the answer with number p -/
def qq_vy (v : Nat) (p : Int32) : List (Nat → Int32) → Nat → Int32
  | [], _ => -1000000000
  | V :: L, c => if nI c = p then V v else qq_vy v p L (c + 1)
theorem qq_vy_neg {v : Nat} {p : Int32} (h : p < 0) : ∀ (L : List (Nat → Int32)) (c : Nat), c + L.length < 2 ^ 31 → qq_vy v p L c = -1000000000 := by
  intro L
  induction L with
  | nil => intro c _; rfl
  | cons V L ih =>
    intro c hc
    rw [List.length_cons] at hc
    rw [qq_vy, if_neg (fun e => nI_pos (show c < 2 ^ 31 by omega) (by rw [e]; exact h))]
    exact ih (c + 1) (by omega)
theorem qq_vy_nI {v k : Nat} (hk : k < 2 ^ 31) : ∀ (L : List (Nat → Int32)) (c : Nat), c + L.length < 2 ^ 31 → c ≤ k → qq_vy v (nI k) L c = qq_val v L (k - c) := by
  intro L
  induction L with
  | nil => intro c _ _; rw [qq_vy, qq_val]
  | cons V L ih =>
    intro c hc hck
    rw [List.length_cons] at hc
    rw [qq_vy]
    by_cases e : c = k
    · subst e
      rw [if_pos rfl, Nat.sub_self, qq_val]
    · rw [if_neg (fun z => e ((nI_eq (by omega) hk).mp z)), show k - c = (k - (c + 1)) + 1 by omega, qq_val]
      exact ih (c + 1) (by omega) (by omega)
section
variable {n s : Nat} {fs : Int32} {K A B C : Nat → Int32}
theorem my_L_all (hW : sm_W n K A B C) {F : Nat → Int32} (hF : ∀ j, j < 14 → F j = -1) : my_L n K A B C (ss_P (sm_w K B C) n 0) 0 F = sm_L n K A B C := by
  have := sm_P hW
  have := hW.1
  exact ss_all (sm_hw K B C) (by omega) _ F (fun j hj => hF j (by omega))
theorem my_go (hW : sm_W n K A B C) {k c : Nat} {V F : Nat → Int32} (hz : ∀ j, 4 ≤ j → V j = 0) (hN : c + (k + 1) = ss_P (sm_w K B C) n 0) {post : Int32 → SY → Prop}
    (ht : ∀ V' F' : Nat → Int32, (∀ j, 4 ≤ j → V' j = 0) → my_L n K A B C (k + 1) c F = V' :: my_L n K A B C k (c + 1) F' → post 1 (fs, K, A, B, C, V', F'))
    (hf : ∀ V' F' : Nat → Int32, (∀ j, 4 ≤ j → V' j = 0) → my_L n K A B C (k + 1) c F = my_L n K A B C k (c + 1) F' → post 0 (fs, K, A, B, C, V', F')) :
    wpY_run post (fs, K, A, B, C, V, F) (nI c) (nI n) := by
  have hP := sm_P hW
  have z := my_run_z hW (c := c) n 0 (fun _ => 0) F (Nat.zero_add n) (fun _ _ => rfl)
  refine my_run hW (my_pos (by omega)) (by omega) hz ?_
  by_cases r : (ss_run (sm_ty K) (sm_w K B C) (sm_act K A B) (sm_ok K A B) n 0 (fun _ => 0) F c).1 = true
  · rw [my_b1 r]
    refine ht _ _ z ?_
    unfold my_L
    rw [ss_blk, if_pos r]
    rfl
  · rw [my_b0 r]
    refine hf _ _ z ?_
    unfold my_L
    rw [ss_blk, if_neg r]
    rfl
theorem mz_isv {p : Int32} {post : Int32 → Prop} {v : SY} (h1 : (∃ v, v < 4 ∧ p = nI v) → post 1) (h0 : (¬ ∃ v, v < 4 ∧ p = nI v) → post 0) : wpY_variable post v p := by
  obtain ⟨y1, y2, y3, y4, y5, y6, y7⟩ := v
  refine br_c (fun c => h0 ?_) (fun c => br_c (fun d => h0 ?_) (fun d => h1 ?_))
  · rintro ⟨v, hv, rfl⟩
    exact nI_pos (by omega) c
  · rintro ⟨v, hv, rfl⟩
    exact nI_nlt (a := 3) (by omega) (by omega) d
  · obtain ⟨j, hj, rfl⟩ := nI_of c
    refine ⟨j, ?_, rfl⟩
    have := mt (nI_ltI (a := 3) (by omega) hj).mpr d
    omega
theorem mz_ways_l (hW : sm_W n K A B C) {post : Int32 → SY → Prop} : ∀ (k c acc : Nat) (V F : Nat → Int32), (∀ j, 4 ≤ j → V j = 0) → c + k = ss_P (sm_w K B C) n 0 →
    (∀ v', my_Fr s K A B C v' → post (nI (acc + (my_L n K A B C k c F).length)) v') → wY_ways_30 post (nI n) (nI (ss_P (sm_w K B C) n 0)) (k + 1) (nI acc) (nI c) (nI s) K A B C V F := by
  have hP := sm_P hW
  intro k
  induction k with
  | zero =>
    intro c acc V F hz hc h
    exact br_t (nI_le (by omega) (by omega)) (h _ ⟨V, F, rfl, hz⟩)
  | succ k ih =>
    intro c acc V F hz hc h
    refine br_f (nI_ge (by omega) (by omega)) (my_go hW hz hc ?_ ?_)
    · intro V' F' hz' e
      refine br_f (by decide) (nm_r (nI_1 acc) (nm_r (nI_1 c) (ih (c + 1) (acc + 1) V' F' hz' (by omega) ?_)))
      intro v' fr
      have h' := h v' fr
      rw [e, List.length_cons] at h'
      rw [show acc + 1 + (my_L n K A B C k (c + 1) F').length = acc + ((my_L n K A B C k (c + 1) F').length + 1) by omega]
      exact h'
    · intro V' F' hz' e
      refine br_t rfl (nm_r (nI_1 c) (ih (c + 1) acc V' F' hz' (by omega) ?_))
      intro v' fr
      have h' := h v' fr
      rw [e] at h'
      exact h'
theorem mz_ways (hW : sm_W s K A B C) {u : SY} (fr : my_Fr s K A B C u) {p : Int32} {post : Int32 → SY → Prop} (h0 : (¬ ∃ n, n ≤ s ∧ p = nI n) → post (-1) u)
    (h : ∀ n, n ≤ s → p = nI n → ∀ u', my_Fr s K A B C u' → post (nI (sm_L n K A B C).length) u') : wpY_ways post u p := by
  have hs := hW.1
  obtain ⟨V, F, rfl, hz⟩ := fr
  unfold wpY_ways
  dsimp only
  by_cases e : ∃ n, n ≤ s ∧ p = nI n
  · obtain ⟨n, hn, rfl⟩ := e
    have hW' := sm_W_le hW hn
    refine br_f (nI_pos (by omega)) (br_t (nI_le hn (by omega)) (my_begin (fun F' hF => ?_)))
    refine my_between (i := 0) hW'.1 hW'.2.1 (Nat.zero_le _) ⟨ss_P (sm_w K B C) n 0 + 1, ?_⟩
    refine mz_ways_l hW' _ 0 0 V F' hz (Nat.zero_add _) (fun v' fr => ?_)
    rw [my_L_all hW' hF, Nat.zero_add]
    exact h n hn rfl v' fr
  · refine br_c (fun _ => h0 e) (fun c => br_f (fun d => e ?_) (h0 e))
    obtain ⟨j, hj, rfl⟩ := nI_of c
    exact ⟨j, (nI_leI hj (by omega)).mp d, rfl⟩
theorem mz_answers (hW : sm_W s K A B C) {u : SY} (fr : my_Fr s K A B C u) {post : Int32 → SY → Prop} (h : ∀ u', my_Fr s K A B C u' → post (nI (sm_L s K A B C).length) u') : wpY_answers post u := by
  have fr' := fr
  have hs := hW.1
  obtain ⟨V, F, rfl, hz⟩ := fr
  unfold wpY_answers
  dsimp only
  refine mz_ways hW fr' (fun e => absurd ⟨s, Nat.le_refl _, rfl⟩ e) (fun n hn en u' f => ?_)
  have e : n = s := ((nI_eq (by omega) (by omega)).mp en).symm
  subst e
  obtain ⟨z1, z2, z3, z4, z5, z6, z7⟩ := u'
  exact h _ f
theorem mz_val_l (hW : sm_W s K A B C) {post : Int32 → SY → Prop} {v : Nat} {p : Int32} (hv : v < 4) : ∀ (k c acc : Nat) (V F : Nat → Int32), (∀ j, 4 ≤ j → V j = 0) → c + k = ss_P (sm_w K B C) s 0 →
    (∀ v', my_Fr s K A B C v' → post (qq_vy v p (my_L s K A B C k c F) acc) v') → wY_value_20 post p (nI v) (nI (ss_P (sm_w K B C) s 0)) (k + 1) (nI acc) (nI c) (nI s) K A B C V F := by
  have hP := sm_P hW
  intro k
  induction k with
  | zero =>
    intro c acc V F hz hc h
    exact br_t (nI_le (by omega) (by omega)) (h _ ⟨V, F, rfl, hz⟩)
  | succ k ih =>
    intro c acc V F hz hc h
    refine br_f (nI_ge (by omega) (by omega)) (mz_isv (fun _ => br_f (by decide) (my_go hW hz hc ?_ ?_)) (fun z => absurd ⟨v, hv, rfl⟩ z))
    · intro V' F' hz' e
      rw [e, qq_vy] at h
      refine br_f (by decide) (br_c (fun q => ⟨vp_in_nI hv (by omega), ?_⟩) (fun q => nm_r (nI_1 acc) (nm_r (nI_1 c) (ih (c + 1) (acc + 1) V' F' hz' (by omega) ?_))))
      · rw [if_pos q] at h
        rw [nI_clamp (n := v) (by omega)]
        exact h _ ⟨V', F', rfl, hz'⟩
      · rw [if_neg q] at h
        exact h
    · intro V' F' hz' e
      rw [e] at h
      exact br_t rfl (nm_r (nI_1 c) (ih (c + 1) acc V' F' hz' (by omega) h))
theorem mz_value (hW : sm_W s K A B C) {u : SY} (fr : my_Fr s K A B C u) {p0 p1 : Int32} {post : Int32 → SY → Prop}
    (h0 : (¬ ∃ v, v < 4 ∧ p1 = nI v) → ∀ u', my_Fr s K A B C u' → post (-1000000000) u')
    (h : ∀ v, v < 4 → p1 = nI v → ∀ u', my_Fr s K A B C u' → post (qq_vy v p0 (sm_L s K A B C) 0) u') : wpY_value post u p0 p1 := by
  obtain ⟨V, F, rfl, hz⟩ := fr
  refine my_begin (fun F' hF => ?_)
  refine my_between (i := 0) hW.1 hW.2.1 (Nat.zero_le _) ⟨ss_P (sm_w K B C) s 0 + 1, ?_⟩
  by_cases e : ∃ v, v < 4 ∧ p1 = nI v
  · obtain ⟨v, hv, rfl⟩ := e
    refine mz_val_l hW hv _ 0 0 V F' hz (Nat.zero_add _) ?_
    rw [my_L_all hW hF]
    exact h v hv rfl
  · exact br_c (fun _ => h0 e _ ⟨V, F', rfl, hz⟩) (fun _ => mz_isv (fun z => absurd z e) (fun _ => br_t rfl (h0 e _ ⟨V, F', rfl, hz⟩)))
theorem mz_cw_l (hW : sm_W s K A B C) {post : Int32 → SY → Prop} {v : Nat} {x : Int32} (hv : v < 4) : ∀ (k c acc : Nat) (V F : Nat → Int32), (∀ j, 4 ≤ j → V j = 0) → c + k = ss_P (sm_w K B C) s 0 →
    (∀ v', my_Fr s K A B C v' → post (nI (acc + qq_cnt v x (my_L s K A B C k c F))) v') → wY_countWith_20 post (nI v) x (nI (ss_P (sm_w K B C) s 0)) (k + 1) (nI acc) (nI c) (nI s) K A B C V F := by
  have hP := sm_P hW
  intro k
  induction k with
  | zero =>
    intro c acc V F hz hc h
    exact br_t (nI_le (by omega) (by omega)) (h _ ⟨V, F, rfl, hz⟩)
  | succ k ih =>
    intro c acc V F hz hc h
    refine br_f (nI_ge (by omega) (by omega)) (mz_isv (fun _ => br_f (by decide) (my_go hW hz hc ?_ ?_)) (fun z => absurd ⟨v, hv, rfl⟩ z))
    · intro V' F' hz' e
      rw [e, qq_cnt] at h
      refine br_f (by decide) ⟨vp_in_nI hv (by omega), ?_⟩
      rw [nI_clamp (n := v) (by omega)]
      refine br_c (fun q => nm_r (nI_1 acc) (nm_r (nI_1 c) (ih (c + 1) (acc + 1) V' F' hz' (by omega) ?_))) (fun q => nm_r (nI_1 c) (ih (c + 1) acc V' F' hz' (by omega) ?_))
      · rw [if_pos q] at h
        rw [show acc + 1 + qq_cnt v x (my_L s K A B C k (c + 1) F') = acc + (1 + qq_cnt v x (my_L s K A B C k (c + 1) F')) by omega]
        exact h
      · rw [if_neg q, Nat.zero_add] at h
        exact h
    · intro V' F' hz' e
      rw [e] at h
      exact br_t rfl (nm_r (nI_1 c) (ih (c + 1) acc V' F' hz' (by omega) h))
theorem mz_countWith (hW : sm_W s K A B C) {u : SY} (fr : my_Fr s K A B C u) {p0 p1 : Int32} {post : Int32 → SY → Prop}
    (h0 : (¬ ∃ v, v < 4 ∧ p0 = nI v) → ∀ u', my_Fr s K A B C u' → post 0 u')
    (h : ∀ v, v < 4 → p0 = nI v → ∀ u', my_Fr s K A B C u' → post (nI (qq_cnt v p1 (sm_L s K A B C))) u') : wpY_countWith post u p0 p1 := by
  obtain ⟨V, F, rfl, hz⟩ := fr
  refine my_begin (fun F' hF => ?_)
  refine my_between (i := 0) hW.1 hW.2.1 (Nat.zero_le _) ⟨ss_P (sm_w K B C) s 0 + 1, ?_⟩
  by_cases e : ∃ v, v < 4 ∧ p0 = nI v
  · obtain ⟨v, hv, rfl⟩ := e
    refine mz_cw_l hW hv _ 0 0 V F' hz (Nat.zero_add _) ?_
    rw [my_L_all hW hF, Nat.zero_add]
    exact h v hv rfl
  · exact br_c (fun _ => h0 e _ ⟨V, F', rfl, hz⟩) (fun _ => mz_isv (fun z => absurd z e) (fun _ => br_t rfl (h0 e _ ⟨V, F', rfl, hz⟩)))
theorem mz_fw_l (hW : sm_W s K A B C) {post : Int32 → SY → Prop} {v : Nat} {x : Int32} (hv : v < 4) : ∀ (k c acc : Nat) (V F : Nat → Int32), (∀ j, 4 ≤ j → V j = 0) → c + k = ss_P (sm_w K B C) s 0 →
    (∀ v', my_Fr s K A B C v' → post (qq_fst v x (my_L s K A B C k c F) acc) v') → wY_firstWith_20 post (nI v) x (nI (ss_P (sm_w K B C) s 0)) (k + 1) (nI acc) (nI c) (nI s) K A B C V F := by
  have hP := sm_P hW
  intro k
  induction k with
  | zero =>
    intro c acc V F hz hc h
    exact br_t (nI_le (by omega) (by omega)) (h _ ⟨V, F, rfl, hz⟩)
  | succ k ih =>
    intro c acc V F hz hc h
    refine br_f (nI_ge (by omega) (by omega)) (mz_isv (fun _ => br_f (by decide) (my_go hW hz hc ?_ ?_)) (fun z => absurd ⟨v, hv, rfl⟩ z))
    · intro V' F' hz' e
      rw [e, qq_fst] at h
      refine br_f (by decide) ⟨vp_in_nI hv (by omega), ?_⟩
      rw [nI_clamp (n := v) (by omega)]
      refine br_c (fun q => ?_) (fun q => nm_r (nI_1 acc) (nm_r (nI_1 c) (ih (c + 1) (acc + 1) V' F' hz' (by omega) ?_)))
      · rw [if_pos q] at h
        exact h _ ⟨V', F', rfl, hz'⟩
      · rw [if_neg q] at h
        exact h
    · intro V' F' hz' e
      rw [e] at h
      exact br_t rfl (nm_r (nI_1 c) (ih (c + 1) acc V' F' hz' (by omega) h))
theorem mz_firstWith (hW : sm_W s K A B C) {u : SY} (fr : my_Fr s K A B C u) {p0 p1 : Int32} {post : Int32 → SY → Prop}
    (h0 : (¬ ∃ v, v < 4 ∧ p0 = nI v) → ∀ u', my_Fr s K A B C u' → post (-1) u')
    (h : ∀ v, v < 4 → p0 = nI v → ∀ u', my_Fr s K A B C u' → post (qq_fst v p1 (sm_L s K A B C) 0) u') : wpY_firstWith post u p0 p1 := by
  obtain ⟨V, F, rfl, hz⟩ := fr
  refine my_begin (fun F' hF => ?_)
  refine my_between (i := 0) hW.1 hW.2.1 (Nat.zero_le _) ⟨ss_P (sm_w K B C) s 0 + 1, ?_⟩
  by_cases e : ∃ v, v < 4 ∧ p0 = nI v
  · obtain ⟨v, hv, rfl⟩ := e
    refine mz_fw_l hW hv _ 0 0 V F' hz (Nat.zero_add _) ?_
    rw [my_L_all hW hF]
    exact h v hv rfl
  · exact br_c (fun _ => h0 e _ ⟨V, F', rfl, hz⟩) (fun _ => mz_isv (fun z => absurd z e) (fun _ => br_t rfl (h0 e _ ⟨V, F', rfl, hz⟩)))
theorem mz_ex_l (hW : sm_W s K A B C) {post : Int32 → SY → Prop} {v : Nat} {w : Int32} (hv : v < 4) (hw : w = 0 ∨ w = 1) : ∀ (k c : Nat) (b : Int32) (f : Bool) (V F : Nat → Int32), (∀ j, 4 ≤ j → V j = 0) → c + k = ss_P (sm_w K B C) s 0 →
    (∀ v', my_Fr s K A B C v' → post (qq_ext v w (my_L s K A B C k c F) b f) v') → wY_extreme_24 post (nI v) w (nI (ss_P (sm_w K B C) s 0)) (k + 1) b (my_b f) (nI c) (nI s) K A B C V F := by
  have hP := sm_P hW
  intro k
  induction k with
  | zero =>
    intro c b f V F hz hc h
    exact br_t (nI_le (by omega) (by omega)) (h _ ⟨V, F, rfl, hz⟩)
  | succ k ih =>
    intro c b f V F hz hc h
    have g47 : wY_extreme_47 post (wY_extreme_24 post (nI v) w (nI (ss_P (sm_w K B C) s 0)) (k + 1)) (nI v) w (nI (ss_P (sm_w K B C) s 0)) b (my_b f) (nI c) (nI s) K A B C V F := by
      refine my_go hW hz hc ?_ ?_
      · intro V' F' hz' e
        rw [e, qq_ext] at h
        have g94 : (f = false ∨ qq_bet w (V' v) b = true) → wY_extreme_94 post (wY_extreme_24 post (nI v) w (nI (ss_P (sm_w K B C) s 0)) (k + 1)) (nI v) w (nI (ss_P (sm_w K B C) s 0)) b (nI c) (nI s) K A B C V' F' := by
          intro q
          rw [if_pos q] at h
          exact br_f (by decide) ⟨vp_in_nI hv (by omega), nm_r (e' := V' v) (by rw [nI_clamp (n := v) (by omega)]) (nm_r (nI_1 c) (ih (c + 1) (V' v) true V' F' hz' (by omega) h))⟩
        have g98 : ¬ (f = false ∨ qq_bet w (V' v) b = true) → wY_extreme_98 post (wY_extreme_24 post (nI v) w (nI (ss_P (sm_w K B C) s 0)) (k + 1)) (nI v) w (nI (ss_P (sm_w K B C) s 0)) b (nI c) (nI s) K A B C V' F' := by
          intro q
          rw [if_neg q] at h
          exact br_t rfl (nm_r (nI_1 c) (ih (c + 1) b true V' F' hz' (by omega) h))
        refine br_f (by decide) ?_
        by_cases hf : f = true
        · have nf : ¬ f = false := by rw [hf]; decide
          rw [my_b1 hf]
          refine br_f (by decide) (br_c (fun w0 => ⟨vp_in_nI hv (by omega), ?_⟩) (fun w0 => ⟨vp_in_nI hv (by omega), ?_⟩))
          · rw [nI_clamp (n := v) (by omega)]
            refine br_c (fun q => g98 ?_) (fun q => g94 (Or.inr ?_))
            · rintro (z | z)
              · exact nf z
              · unfold qq_bet at z
                rw [if_pos w0] at z
                exact Int32.not_lt.mpr q (of_decide_eq_true z)
            · unfold qq_bet
              rw [if_pos w0]
              exact decide_eq_true (Int32.not_le.mp q)
          · rw [nI_clamp (n := v) (by omega)]
            refine br_c (fun q => g98 ?_) (fun q => g94 (Or.inr ?_))
            · rintro (z | z)
              · exact nf z
              · unfold qq_bet at z
                rw [if_neg w0] at z
                exact Int32.not_lt.mpr q (of_decide_eq_true z)
            · unfold qq_bet
              rw [if_neg w0]
              exact decide_eq_true (Int32.not_le.mp q)
        · rw [my_b0 hf]
          exact br_t rfl (g94 (Or.inl (by simpa using hf)))
      · intro V' F' hz' e
        rw [e] at h
        exact br_t rfl (nm_r (nI_1 c) (ih (c + 1) b f V' F' hz' (by omega) h))
    refine br_f (nI_ge (by omega) (by omega)) (mz_isv (fun _ => br_f (by decide) ?_) (fun z => absurd ⟨v, hv, rfl⟩ z))
    exact br_c (fun _ => g47) (fun n0 => br_t (hw.resolve_left n0) g47)
theorem mz_extreme (hW : sm_W s K A B C) {u : SY} (fr : my_Fr s K A B C u) {p0 p1 : Int32} {post : Int32 → SY → Prop}
    (h0 : (¬ ∃ v, v < 4 ∧ p0 = nI v) → ∀ u', my_Fr s K A B C u' → post (-1000000000) u') (h1 : ¬ (p1 = 0 ∨ p1 = 1) → ∀ u', my_Fr s K A B C u' → post (-1000000000) u')
    (h : ∀ v, v < 4 → p0 = nI v → (p1 = 0 ∨ p1 = 1) → ∀ u', my_Fr s K A B C u' → post (qq_ext v p1 (sm_L s K A B C) (-1000000000) false) u') : wpY_extreme post u p0 p1 := by
  obtain ⟨V, F, rfl, hz⟩ := fr
  refine my_begin (fun F' hF => ?_)
  refine my_between (i := 0) hW.1 hW.2.1 (Nat.zero_le _) ⟨ss_P (sm_w K B C) s 0 + 1, ?_⟩
  by_cases e : ∃ v, v < 4 ∧ p0 = nI v
  · by_cases e1 : p1 = 0 ∨ p1 = 1
    · obtain ⟨v, hv, rfl⟩ := e
      refine mz_ex_l hW hv e1 _ 0 (-1000000000) false V F' hz (Nat.zero_add _) ?_
      rw [my_L_all hW hF]
      exact h v hv rfl e1
    · have q := h1 e1 _ ⟨V, F', rfl, hz⟩
      exact br_c (fun _ => q) (fun _ => mz_isv (fun _ => br_f (by decide) (br_f (fun z => e1 (Or.inl z)) (br_f (fun z => e1 (Or.inr z)) q))) (fun z => absurd e z))
  · exact br_c (fun _ => h0 e _ ⟨V, F', rfl, hz⟩) (fun _ => mz_isv (fun z => absurd z e) (fun _ => br_t rfl (h0 e _ ⟨V, F', rfl, hz⟩)))
end
end
section
/-! step -/
def mt_ch (p : Int32) : Prop := p = 0 ∨ p = 4 ∨ p = 9
def mt_sec (k bc : Int32) : Prop :=
  (k = 0 → ¬ bc < 0 ∧ ¬ 12 < (bc &&& 15) ∧ ¬ 12 < (bc >>> ((4 : Int32) &&& 31))) ∧ (k = 1 → ¬ bc < (-20) ∧ ¬ 20 < bc) ∧ (¬ k = 0 → ¬ k = 1 → ∃ v, v < 4 ∧ bc = nI v)
def mt_leg (k a bc : Int32) : Prop := ¬ k < 0 ∧ ¬ 9 < k ∧ (k = 8 ∨ ((∃ v, v < 4 ∧ a = nI v) ∧ mt_sec k bc))
def mt_a (k a : Int32) : Int32 := if k = 8 then 0 else a
def mt_b (k bc : Int32) : Int32 := if k = 8 then 0 else if k = 0 then (bc &&& 15) - 3 else bc
def mt_c (k bc : Int32) : Int32 := if k = 0 then (bc >>> ((4 : Int32) &&& 31)) - 3 else 0
theorem mt_bc {bc : Int32} (h0 : ¬ bc < 0) (h2 : ¬ 12 < (bc >>> ((4 : Int32) &&& 31))) : ∃ j, j < 208 ∧ bc = nI j ∧ bc >>> ((4 : Int32) &&& 31) = nI (j / 16) := by
  obtain ⟨j, hj, rfl⟩ := nI_of h0
  have e : nI j >>> ((4 : Int32) &&& 31) = nI (j / 2 ^ 4) := pk_shrN hj _ 4 (by decide)
  rw [e] at h2
  have q : ¬ 12 < j / 2 ^ 4 := fun z => h2 (nI_lt (a := 12) z (Nat.lt_of_le_of_lt (Nat.div_le_self _ _) hj))
  refine ⟨j, by omega, rfl, e⟩
theorem mt_n3 {j : Nat} (h : j ≤ 12) : -3 ≤ (nI j - 3).toInt ∧ (nI j - 3).toInt ≤ 9 := by
  have e : (nI j - nI 3).toInt = (j : Int) - (3 : Nat) := pk_sub_toInt (by omega) (by omega)
  have e' : (nI j - 3).toInt = (j : Int) - (3 : Nat) := e
  omega
theorem mt_k {k a bc : Int32} (h : mt_leg k a bc) : ∃ q, q ≤ 9 ∧ k = nI q := by
  obtain ⟨h0, h9, _⟩ := h
  obtain ⟨j, hj, rfl⟩ := nI_of h0
  exact ⟨j, Nat.le_of_not_lt (fun z => h9 (nI_lt (a := 9) z hj)), rfl⟩
theorem mt_ka {k a bc : Int32} (h : mt_leg k a bc) : ∃ q, q < 4 ∧ mt_a k a = nI q := by
  unfold mt_a
  obtain ⟨_, _, e | ⟨⟨v, hv, e⟩, _⟩⟩ := h
  · rw [if_pos e]
    exact ⟨0, by omega, rfl⟩
  · split
    · exact ⟨0, by omega, rfl⟩
    · exact ⟨v, hv, e⟩
theorem mt_kb0 {k a bc : Int32} (h : mt_leg k a bc) (k0 : k = 0) : (-3 ≤ (mt_b k bc).toInt ∧ (mt_b k bc).toInt ≤ 9) ∧ (-3 ≤ (mt_c k bc).toInt ∧ (mt_c k bc).toInt ≤ 9) := by
  have n8 : ¬ k = 8 := by rw [k0]; decide
  obtain ⟨_, _, e | ⟨_, s, _⟩⟩ := h
  · exact absurd e n8
  obtain ⟨s1, s2, s3⟩ := s k0
  obtain ⟨j, hj, ej, es⟩ := mt_bc s1 s3
  unfold mt_b mt_c
  rw [if_neg n8, if_pos k0, if_pos k0, es]
  obtain ⟨q, hq, eq⟩ := pk_andE bc (m := 15) 4 (by decide)
  rw [eq] at s2 ⊢
  exact ⟨mt_n3 (Nat.le_of_not_lt (fun z => s2 (nI_lt (a := 12) z (by omega)))), mt_n3 (by omega)⟩
theorem mt_kb2 {k a bc : Int32} (h : mt_leg k a bc) (k0 : ¬ k = 0) (k1 : ¬ k = 1) : ∃ q, q < 4 ∧ mt_b k bc = nI q := by
  unfold mt_b
  by_cases k8 : k = 8
  · rw [if_pos k8]
    exact ⟨0, by omega, rfl⟩
  · rw [if_neg k8, if_neg k0]
    obtain ⟨_, _, e | ⟨_, _, _, s⟩⟩ := h
    · exact absurd e k8
    · exact s k0 k1
theorem mt_b8 {k a bc : Int32} (h : mt_leg k a bc) : -128 ≤ (mt_b k bc).toInt ∧ (mt_b k bc).toInt < 128 := by
  by_cases k0 : k = 0
  · have := (mt_kb0 h k0).1
    omega
  · by_cases k1 : k = 1
    · obtain ⟨_, _, e | ⟨_, _, s, _⟩⟩ := h
      · rw [k1] at e
        exact absurd e (by decide)
      · obtain ⟨s1, s2⟩ := s k1
        unfold mt_b
        rw [if_neg (by rw [k1]; decide), if_neg k0]
        rw [Int32.lt_iff_toInt_lt] at s1 s2
        have e1 : (-20 : Int32).toInt = -20 := by decide
        have e2 : (20 : Int32).toInt = 20 := by decide
        omega
    · obtain ⟨q, hq, e⟩ := mt_kb2 h k0 k1
      rw [e, nI_toInt (by omega)]
      omega
theorem mt_c8 {k a bc : Int32} (h : mt_leg k a bc) : -128 ≤ (mt_c k bc).toInt ∧ (mt_c k bc).toInt < 128 := by
  by_cases k0 : k = 0
  · have := (mt_kb0 h k0).2
    omega
  · unfold mt_c
    rw [if_neg k0]
    decide
theorem mt_cc {K : Nat → Int32} {s : Nat} {x : Int32} : ∀ i, i ≤ s → ss_cc (sm_ty (upd K s x)) i = ss_cc (sm_ty K) i := by
  intro i
  induction i with
  | zero => intro _; rfl
  | succ i ih =>
    intro h
    have e : sm_ty (upd K s x) i = sm_ty K i := by
      unfold sm_ty
      rw [pk_un (by omega)]
    rw [ss_cc, ss_cc, ih (by omega), e]
theorem mt_W {s : Nat} {K A B C : Nat → Int32} {k a bc : Int32} (hW : sm_W s K A B C) (hl : mt_leg k a bc) (hc : ¬ (mt_ch k ∧ 3 ≤ ss_cc (sm_ty K) s)) (hs : s < 14) :
    sm_W (s + 1) (upd K s k) (upd A s (mt_a k a)) (upd B s (mt_b k bc)) (upd C s (mt_c k bc)) := by
  refine ⟨hs, fun i hi => ?_, ?_⟩
  · by_cases e : i = s
    · subst e
      unfold sm_wf
      rw [pk_us, pk_us, pk_us, pk_us]
      exact ⟨mt_k hl, mt_ka hl, mt_kb0 hl, mt_kb2 hl⟩
    · have w := hW.2.1 i (by omega)
      unfold sm_wf at w ⊢
      rw [pk_un e, pk_un e, pk_un e, pk_un e]
      exact w
  · rw [ss_cc, mt_cc s (Nat.le_refl _)]
    have h3 := hW.2.2
    by_cases c : mt_ch k
    · have : ¬ 3 ≤ ss_cc (sm_ty K) s := fun z => hc ⟨c, z⟩
      split <;> omega
    · have e : sm_ty (upd K s k) s ≠ 0 := by
        intro z
        have z' := sm_ty0' z
        rw [pk_us] at z'
        exact c z'
      rw [if_neg e]
      omega
section
variable {s : Nat} {fs fa fe ft fo : Int32} {K A B C V F tv tx os ow ot : Nat → Int32}
theorem mt_xch {p : Int32} {post : Int32 → Prop} (h1 : mt_ch p → post 1) (h0 : ¬ mt_ch p → post 0) : wpX_chooses post p :=
  br_c (fun c => h1 (Or.inl c)) (fun c0 => br_c (fun c => h1 (Or.inr (Or.inl c))) (fun c4 => br_c (fun c => h1 (Or.inr (Or.inr c))) (fun c9 => h0 (fun z => z.elim c0 (fun z => z.elim c4 c9)))))
theorem mt_ych {v : SY} {p : Int32} {post : Int32 → Prop} (h1 : mt_ch p → post 1) (h0 : ¬ mt_ch p → post 0) : wpY_choice post v p := by
  obtain ⟨y1, y2, y3, y4, y5, y6, y7⟩ := v
  exact br_c (fun c => h1 (Or.inl c)) (fun c0 => br_c (fun c => h1 (Or.inr (Or.inl c))) (fun c4 => br_c (fun c => h1 (Or.inr (Or.inr c))) (fun c9 => h0 (fun z => z.elim c0 (fun z => z.elim c4 c9)))))
theorem mt_cs1 {i : Nat} (h : mt_ch (K i)) : ss_cc (sm_ty K) (i + 1) = ss_cc (sm_ty K) i + 1 := by
  rw [ss_cc, if_pos (sm_ty0 h)]
theorem mt_cs0 {i : Nat} (h : ¬ mt_ch (K i)) : ss_cc (sm_ty K) (i + 1) = ss_cc (sm_ty K) i := by
  rw [ss_cc, if_neg (fun z => h (sm_ty0' z)), Nat.add_zero]
theorem mt_xcs {post : Int32 → Prop} (hs : s ≤ 14) (h : post (nI (ss_cc (sm_ty K) s))) : ∀ (d i : Nat), i + d = s → wX_choiceSteps_4 post (nI s) fa fe ft fo K A B C V tv tx os ow ot (d + 1) (nI (ss_cc (sm_ty K) i)) (nI i) := by
  intro d
  induction d with
  | zero =>
    intro i hi
    have e : i = s := by omega
    subst e
    exact br_t (nI_le (Nat.le_refl _) (by omega)) h
  | succ d ih =>
    intro i hi
    refine br_f (nI_ge (by omega) (by omega)) ⟨vp_in_nI (by omega) (by omega), ?_⟩
    rw [nI_clamp (n := i) (by omega)]
    refine mt_xch (fun c => br_f (by decide) (nm_r (nI_1 _) (nm_r (nI_1 i) ?_))) (fun c => br_t rfl (nm_r (Int32.add_zero _) (nm_r (nI_1 i) ?_)))
    · rw [← mt_cs1 c]
      exact ih (i + 1) (by omega)
    · rw [← mt_cs0 c]
      exact ih (i + 1) (by omega)
theorem mt_ycs {post : Int32 → Prop} (hs : s ≤ 14) (h : post (nI (ss_cc (sm_ty K) s))) : ∀ (d i : Nat), i + d = s → wY_choices_4 post (nI s) K A B C V F (d + 1) (nI (ss_cc (sm_ty K) i)) (nI i) := by
  intro d
  induction d with
  | zero =>
    intro i hi
    have e : i = s := by omega
    subst e
    exact br_t (nI_le (Nat.le_refl _) (by omega)) h
  | succ d ih =>
    intro i hi
    refine br_f (nI_ge (by omega) (by omega)) ⟨vp_in_nI (by omega) (by omega), ?_⟩
    rw [nI_clamp (n := i) (by omega)]
    refine mt_ych (fun c => br_f (by decide) (nm_r (nI_1 _) (nm_r (nI_1 i) ?_))) (fun c => br_t rfl (nm_r (nI_1 i) ?_))
    · rw [← mt_cs1 c]
      exact ih (i + 1) (by omega)
    · rw [← mt_cs0 c]
      exact ih (i + 1) (by omega)
theorem mt_xsec {k bc : Int32} {post : Int32 → Prop} (h1 : mt_sec k bc → post 1) (h0 : ¬ mt_sec k bc → post 0) : wpX_secondOk post k bc := by
  refine br_c (fun k0 => br_c (fun c => h0 (fun z => (z.1 k0).1 c)) (fun c => br_c (fun d => h0 (fun z => ?_)) (fun d => br_c (fun e => h0 (fun z => (z.1 k0).2.1 e)) (fun e => br_c (fun g => h0 (fun z => (z.1 k0).2.2 g)) (fun g => h1 ?_))))) (fun k0 => br_c (fun k1 => br_c (fun c => h0 (fun z => (z.2.1 k1).1 c)) (fun c => br_c (fun d => h0 (fun z => (z.2.1 k1).2 d)) (fun d => h1 ?_))) (fun k1 => mq_isv (fun e => ⟨narrow_b1, h1 ?_⟩) (fun e => ⟨narrow_b0, h0 (fun z => e (z.2.2 k0 k1))⟩)))
  · obtain ⟨z1, z2, z3⟩ := z.1 k0
    obtain ⟨j, hj, rfl, _⟩ := mt_bc z1 z3
    exact nI_ge (b := 256) (by omega) (by omega) d
  · exact ⟨fun _ => ⟨c, e, g⟩, fun k1 => absurd (k0.symm.trans k1) (by decide), fun n => absurd k0 n⟩
  · exact ⟨fun n => absurd n k0, fun _ => ⟨c, d⟩, fun _ n => absurd k1 n⟩
  · exact ⟨fun n => absurd n k0, fun n => absurd n k1, fun _ _ => e⟩
theorem mt_x50 {post : Int32 → SX → Prop} {k a bc : Int32} (hl : mt_leg k a bc) (hs : s ≤ 14) (hfull : 14 ≤ s → post (-2) (nI s, fa, fe, ft, fo, K, A, B, C, V, tv, tx, os, ow, ot))
    (hst : s < 14 → post (nI s) (nI (s + 1), fa, fe, ft, fo, upd K s k, upd A s (mt_a k a), upd B s (mt_b k bc), upd C s (mt_c k bc), V, tv, tx, os, ow, ot)) : wX_step_50 post k a bc (nI s) fa fe ft fo K A B C V tv tx os ow ot := by
  by_cases h14 : s < 14
  · have cs : (nI s).toNatClampNeg = s := nI_clamp (by omega)
    have is : vp_in (nI s) 14 := vp_in_nI h14 (by omega)
    obtain ⟨q, hq, ek⟩ := mt_k hl
    obtain ⟨q', hq', ea⟩ := mt_ka hl
    have bk : vp_nar .byte k.toInt8.toInt32 = k := by rw [ek]; exact mb_nI (by omega)
    have ba : vp_nar .byte (mt_a k a).toInt8.toInt32 = mt_a k a := by rw [ea]; exact mb_nI (by omega)
    have bb : vp_nar .byte (mt_b k bc).toInt8.toInt32 = mt_b k bc := mb_byte (mt_b8 hl).1 (mt_b8 hl).2
    have bcc : vp_nar .byte (mt_c k bc).toInt8.toInt32 = mt_c k bc := mb_byte (mt_c8 hl).1 (mt_c8 hl).2
    have g149 : wX_step_149 post (mt_c k bc) (nI s) (nI s) fa fe ft fo (upd K s k) (upd A s (mt_a k a)) (upd B s (mt_b k bc)) C V tv tx os ow ot := by
      refine ⟨is, nm_r (e' := upd C s (mt_c k bc)) (by rw [cs, bcc]) (nm_r (nI_1 s) ?_)⟩
      rw [nI_pred]
      exact hst h14
    have g126 : wX_step_126 post k bc (mt_b k bc) (nI s) (nI s) fa fe ft fo (upd K s k) (upd A s (mt_a k a)) B C V tv tx os ow ot := by
      refine ⟨is, nm_r (e' := upd B s (mt_b k bc)) (by rw [cs, bb]) (br_c (fun c => ?_) (fun c => ?_))⟩
      · rw [show mt_c k bc = (bc >>> ((4 : Int32) &&& 31)) - 3 from if_pos c] at g149
        exact g149
      · rw [show mt_c k bc = 0 from if_neg c] at g149
        exact g149
    have g92 : wX_step_92 post k bc (mt_a k a) (nI s) (nI s) fa fe ft fo (upd K s k) A B C V tv tx os ow ot := by
      refine ⟨is, nm_r (e' := upd A s (mt_a k a)) (by rw [cs, ba]) (br_c (fun c => ?_) (fun c => br_c (fun d => ?_) (fun d => ?_)))⟩
      · rw [show mt_b k bc = 0 from if_pos c] at g126
        exact g126
      · rw [show mt_b k bc = (bc &&& 15) - 3 from (if_neg c).trans (if_pos d)] at g126
        exact g126
      · rw [show mt_b k bc = bc from (if_neg c).trans (if_neg d)] at g126
        exact g126
    refine br_t (nI_lt (b := 14) h14 (by omega)) ⟨is, nm_r (e' := upd K s k) (by rw [cs, bk]) (br_c (fun c => ?_) (fun c => ?_))⟩
    · rw [show mt_a k a = 0 from if_pos c] at g92
      exact g92
    · rw [show mt_a k a = a from if_neg c] at g92
      exact g92
  · exact br_f (nI_nlt (b := 14) (by omega) (by omega)) (hfull (by omega))
theorem mt_y28 {post : Int32 → SY → Prop} {k a bc : Int32} (hl : mt_leg k a bc) (hs : s ≤ 14) (hfull : 14 ≤ s → post (-2) (nI s, K, A, B, C, V, F))
    (hst : s < 14 → post (nI s) (nI (s + 1), upd K s k, upd A s (mt_a k a), upd B s (mt_b k bc), upd C s (mt_c k bc), V, F)) : wY_step_28 post k a bc (nI s) K A B C V F := by
  by_cases h14 : s < 14
  · have cs : (nI s).toNatClampNeg = s := nI_clamp (by omega)
    have is : vp_in (nI s) 14 := vp_in_nI h14 (by omega)
    have g149 : wY_step_124 post (mt_c k bc) (nI s) (nI s) (upd K s k) (upd A s (mt_a k a)) (upd B s (mt_b k bc)) C V F := by
      refine ⟨is, nm_r (e' := upd C s (mt_c k bc)) (by rw [cs]) (nm_r (nI_1 s) ?_)⟩
      rw [nI_pred]
      exact hst h14
    have g126 : wY_step_102 post k bc (mt_b k bc) (nI s) (nI s) (upd K s k) (upd A s (mt_a k a)) B C V F := by
      refine ⟨is, nm_r (e' := upd B s (mt_b k bc)) (by rw [cs]) (br_c (fun c => ?_) (fun c => ?_))⟩
      · rw [show mt_c k bc = (bc >>> ((4 : Int32) &&& 31)) - 3 from if_pos c] at g149
        exact g149
      · rw [show mt_c k bc = 0 from if_neg c] at g149
        exact g149
    have g92 : wY_step_69 post k bc (mt_a k a) (nI s) (nI s) (upd K s k) A B C V F := by
      refine ⟨is, nm_r (e' := upd A s (mt_a k a)) (by rw [cs]) (br_c (fun d => ?_) (fun d => br_c (fun c => ?_) (fun c => ?_)))⟩
      · rw [show mt_b k bc = (bc &&& 15) - 3 from (if_neg (by rw [d]; decide)).trans (if_pos d)] at g126
        exact g126
      · rw [show mt_b k bc = 0 from if_pos c] at g126
        exact g126
      · rw [show mt_b k bc = bc from (if_neg c).trans (if_neg d)] at g126
        exact g126
    refine br_t (nI_lt (b := 14) h14 (by omega)) ⟨is, nm_r (e' := upd K s k) (by rw [cs]) (br_c (fun c => ?_) (fun c => ?_))⟩
    · rw [show mt_a k a = 0 from if_pos c] at g92
      exact g92
    · rw [show mt_a k a = a from if_neg c] at g92
      exact g92
  · exact br_f (nI_nlt (b := 14) (by omega) (by omega)) (hfull (by omega))
end
end
section
/-! step, both sides: one of four outcomes -/
section
variable {s : Nat} {K A B C : Nat → Int32}
theorem mt_X (hW : sm_W s K A B C) {u : SX} (fr : mx_Fr s K A B C u) {k a bc : Int32} {post : Int32 → SX → Prop}
    (hbad : ¬ mt_leg k a bc ∨ (mt_leg k a bc ∧ mt_ch k ∧ 3 ≤ ss_cc (sm_ty K) s) → post (-1) u)
    (hfull : mt_leg k a bc → ¬ (mt_ch k ∧ 3 ≤ ss_cc (sm_ty K) s) → 14 ≤ s → post (-2) u)
    (hst : mt_leg k a bc → ¬ (mt_ch k ∧ 3 ≤ ss_cc (sm_ty K) s) → s < 14 → ∀ u', mx_Fr (s + 1) (upd K s k) (upd A s (mt_a k a)) (upd B s (mt_b k bc)) (upd C s (mt_c k bc)) u' → post (nI s) u') :
    wpX_step post u k a bc := by
  obtain ⟨fa, fe, ft, fo, V, tv, tx, os, ow, ot, rfl, hz⟩ := fr
  have hs := hW.1
  have h3 := hW.2.2
  have g33 : mt_leg k a bc → wX_step_33 post k a bc (nI s) fa fe ft fo K A B C V tv tx os ow ot := by
    intro hl
    have g50 : ¬ (mt_ch k ∧ 3 ≤ ss_cc (sm_ty K) s) → wX_step_50 post k a bc (nI s) fa fe ft fo K A B C V tv tx os ow ot := fun hn =>
      mt_x50 hl hs (hfull hl hn) (fun h14 => hst hl hn h14 _ ⟨_, _, _, _, _, _, _, _, _, _, rfl, hz⟩)
    refine mt_xch (fun c => br_f (by decide) ⟨s + 1, ?_⟩) (fun c => br_t rfl (g50 (fun z => c z.1)))
    refine mt_xcs hs ?_ s 0 (Nat.zero_add s)
    by_cases e : 3 ≤ ss_cc (sm_ty K) s
    · exact br_f (nI_nlt (b := 3) e (by omega)) (hbad (Or.inr ⟨hl, c, e⟩))
    · exact br_t (nI_lt (b := 3) (by omega) (by omega)) (g50 (fun z => e z.2))
  refine br_c (fun c => hbad (Or.inl (fun z => z.1 c))) (fun c => br_c (fun d => hbad (Or.inl (fun z => z.2.1 d))) (fun d => br_c (fun e => g33 ⟨c, d, Or.inl e⟩) (fun e => ?_)))
  refine mq_isv (fun v => br_f (by decide) (mt_xsec (fun q => br_f (by decide) (g33 ⟨c, d, Or.inr ⟨v, q⟩⟩)) (fun q => br_t rfl (hbad (Or.inl ?_))))) (fun v => br_t rfl (hbad (Or.inl ?_)))
  · rintro ⟨_, _, z | ⟨_, z⟩⟩
    · exact e z
    · exact q z
  · rintro ⟨_, _, z | ⟨z, _⟩⟩
    · exact e z
    · exact v z
theorem mt_ygood {v : SY} {k a bc : Int32} {post : Int32 → Prop} (h1 : mt_leg k a bc → post 1) (h0 : ¬ mt_leg k a bc → post 0) : wpY_good post v k a bc := by
  obtain ⟨y1, y2, y3, y4, y5, y6, y7⟩ := v
  refine br_c (fun k0 => mz_isv (fun v => br_f (by decide) ?_) (fun v => br_t rfl (h0 ?_))) (fun k0 => br_c (fun k1 => mz_isv (fun v => br_f (by decide) ?_) (fun v => br_t rfl (h0 ?_))) (fun k1 => br_c (fun k8 => h1 ?_) (fun k8 => br_c (fun k2 => h0 ?_) (fun k2 => br_c (fun k9 => h0 (fun z => z.2.1 k9)) (fun k9 => mz_isv (fun v => br_f (by decide) (mz_isv (fun q => br_f (by decide) (h1 ?_)) (fun q => br_t rfl (h0 ?_)))) (fun v => br_t rfl (h0 ?_)))))))
  · have n8 : ¬ k = 8 := by rw [k0]; decide
    have sec : mt_leg k a bc → ¬ bc < 0 ∧ ¬ 12 < (bc &&& 15) ∧ ¬ 12 < (bc >>> ((4 : Int32) &&& 31)) := by
      rintro ⟨_, _, z | ⟨_, z, _⟩⟩
      · exact absurd z n8
      · exact z k0
    refine br_c (fun c => h0 (fun z => (sec z).1 c)) (fun c => br_c (fun e => h0 (fun z => (sec z).2.1 e)) (fun e => br_c (fun g => h0 (fun z => (sec z).2.2 g)) (fun g => h1 ?_)))
    refine ⟨by rw [k0]; decide, by rw [k0]; decide, Or.inr ⟨v, fun _ => ⟨c, e, g⟩, fun k1 => absurd (k0.symm.trans k1) (by decide), fun n => absurd k0 n⟩⟩
  · rintro ⟨_, _, z | ⟨z, _⟩⟩
    · rw [k0] at z; exact absurd z (by decide)
    · exact v z
  · have n8 : ¬ k = 8 := by rw [k1]; decide
    have sec : mt_leg k a bc → ¬ bc < (-20) ∧ ¬ 20 < bc := by
      rintro ⟨_, _, z | ⟨_, _, z, _⟩⟩
      · exact absurd z n8
      · exact z k1
    refine br_c (fun c => h0 (fun z => (sec z).1 c)) (fun c => br_c (fun e => h0 (fun z => (sec z).2 e)) (fun e => h1 ?_))
    exact ⟨by rw [k1]; decide, by rw [k1]; decide, Or.inr ⟨v, fun n => absurd n k0, fun _ => ⟨c, e⟩, fun _ n => absurd k1 n⟩⟩
  · rintro ⟨_, _, z | ⟨z, _⟩⟩
    · rw [k1] at z; exact absurd z (by decide)
    · exact v z
  · exact ⟨by rw [k8]; decide, by rw [k8]; decide, Or.inl k8⟩
  · intro z
    obtain ⟨j, hj, rfl⟩ := nI_of z.1
    have q := (nI_ltI (b := 2) hj (by omega)).mp k2
    have : j = 0 ∨ j = 1 := by omega
    rcases this with rfl | rfl
    · exact k0 rfl
    · exact k1 rfl
  · refine ⟨fun z => k2 ?_, k9, Or.inr ⟨v, fun n => absurd n k0, fun n => absurd n k1, fun _ _ => q⟩⟩
    exact Int32.lt_trans z (by decide)
  · rintro ⟨_, _, z | ⟨_, _, _, z⟩⟩
    · exact k8 z
    · exact q (z k0 k1)
  · rintro ⟨_, _, z | ⟨z, _⟩⟩
    · exact k8 z
    · exact v z
theorem mt_Y (hW : sm_W s K A B C) {u : SY} (fr : my_Fr s K A B C u) {k a bc : Int32} {post : Int32 → SY → Prop}
    (hbad : ¬ mt_leg k a bc ∨ (mt_leg k a bc ∧ mt_ch k ∧ 3 ≤ ss_cc (sm_ty K) s) → post (-1) u)
    (hfull : mt_leg k a bc → ¬ (mt_ch k ∧ 3 ≤ ss_cc (sm_ty K) s) → 14 ≤ s → post (-2) u)
    (hst : mt_leg k a bc → ¬ (mt_ch k ∧ 3 ≤ ss_cc (sm_ty K) s) → s < 14 → ∀ u', my_Fr (s + 1) (upd K s k) (upd A s (mt_a k a)) (upd B s (mt_b k bc)) (upd C s (mt_c k bc)) u' → post (nI s) u') :
    wpY_step post u k a bc := by
  obtain ⟨V, F, rfl, hz⟩ := fr
  have hs := hW.1
  have h3 := hW.2.2
  unfold wpY_step
  dsimp only
  refine mt_ygood (fun hl => br_f (by decide) ?_) (fun hl => br_t rfl (hbad (Or.inl hl)))
  have g28 : ¬ (mt_ch k ∧ 3 ≤ ss_cc (sm_ty K) s) → wY_step_28 post k a bc (nI s) K A B C V F := fun hn =>
    mt_y28 hl hs (hfull hl hn) (fun h14 => hst hl hn h14 _ ⟨_, _, rfl, hz⟩)
  refine mt_ych (fun c => br_f (by decide) ⟨s + 1, ?_⟩) (fun c => br_t rfl (g28 (fun z => c z.1)))
  refine mt_ycs hs ?_ s 0 (Nat.zero_add s)
  by_cases e : 3 ≤ ss_cc (sm_ty K) s
  · exact br_f (nI_nlt (b := 3) e (by omega)) (hbad (Or.inr ⟨hl, c, e⟩))
  · exact br_t (nI_lt (b := 3) (by omega) (by omega)) (g28 (fun z => e z.2))
end
end
section
/-! what is owed -/
/-- both keep one program of s steps; of the rest only that nothing lies behind the four variables -/
def i_Rel (k : Nat) (u : SX) (v : SY) : Prop := ∃ (s : Nat) (K A B C : Nat → Int32), sm_W s K A B C ∧ mx_Fr s K A B C u ∧ my_Fr s K A B C v
theorem i_up {k : Nat} {u : SX} {v : SY} (h : i_Rel k u v) : i_Rel (k + 4) u v := h
theorem i_vc0 : wpX_init (fun u => wpY_init (fun v => i_Rel 0 u v)) :=
  ⟨0, fun _ => 0, fun _ => 0, fun _ => 0, fun _ => 0, ⟨by decide, fun i hi => absurd hi (Nat.not_lt_zero i), by decide⟩, ⟨_, _, _, _, _, _, _, _, _, _, rfl, fun _ _ => rfl⟩, ⟨_, _, rfl, fun _ _ => rfl⟩⟩
theorem i_vc_step {k : Nat} {u : SX} {v : SY} (I : i_Rel k u v) (hk : k + 4 ≤ 2048) (v1 : Int32) (v2 : Int32) (v3 : Int32) : wpX_step (fun r u' => wpY_step (fun r' v' => r' = r ∧ i_Rel (k + 4) u' v') v v1 v2 v3) u v1 v2 v3 := by
  obtain ⟨s, K, A, B, C, hW, fx, fy⟩ := I
  refine mt_X hW fx (fun b => ?_) (fun hl hn hf => ?_) (fun hl hn h14 u' fx' => ?_)
  · refine mt_Y hW fy (fun _ => ⟨rfl, s, K, A, B, C, hW, fx, fy⟩) (fun hl hn _ => ?_) (fun hl hn _ => ?_)
    · rcases b with z | z
      · exact absurd hl z
      · exact absurd z.2 hn
    · rcases b with z | z
      · exact absurd hl z
      · exact absurd z.2 hn
  · refine mt_Y hW fy (fun b => ?_) (fun _ _ _ => ⟨rfl, s, K, A, B, C, hW, fx, fy⟩) (fun _ _ z => absurd hf (Nat.not_le_of_lt z))
    rcases b with z | z
    · exact absurd hl z
    · exact absurd z.2 hn
  · refine mt_Y hW fy (fun b => ?_) (fun _ _ z => absurd z (Nat.not_le_of_lt h14)) (fun _ _ _ v' fy' => ⟨rfl, _, _, _, _, _, mt_W hW hl hn h14, fx', fy'⟩)
    rcases b with z | z
    · exact absurd hl z
    · exact absurd z.2 hn
theorem i_vc_drop {k : Nat} {u : SX} {v : SY} (I : i_Rel k u v) (hk : k + 4 ≤ 2048) : wpX_drop (fun r u' => wpY_drop (fun r' v' => r' = r ∧ i_Rel (k + 4) u' v') v) u := by
  obtain ⟨s, K, A, B, C, hW, fx, fy⟩ := I
  have fx' := fx
  have fy' := fy
  have hs := hW.1
  obtain ⟨fa, fe, ft, fo, V, tv, tx, os, ow, ot, rfl, hz⟩ := fx
  obtain ⟨V', F, rfl, hz'⟩ := fy
  cases s with
  | zero => exact br_t rfl (br_t rfl ⟨rfl, 0, K, A, B, C, hW, fx', fy'⟩)
  | succ s =>
    have n0 : ¬ nI (s + 1) = 0 := nI_ne0 (by omega) (by omega)
    exact br_f n0 (nm_r (nI_pred s) (br_f n0 (nm_r (nI_pred s) ⟨rfl, s, K, A, B, C, sm_W_le hW (Nat.le_succ s), ⟨_, _, _, _, _, _, _, _, _, _, rfl, hz⟩, ⟨_, _, rfl, hz'⟩⟩)))
theorem i_vc_length {k : Nat} {u : SX} {v : SY} (I : i_Rel k u v) (hk : k + 4 ≤ 2048) : wpX_length (fun r => wpY_length (fun r' => r' = r ∧ i_Rel (k + 4) u v) v) u := by
  have I' := I
  obtain ⟨s, K, A, B, C, hW, fx, fy⟩ := I
  obtain ⟨fa, fe, ft, fo, V, tv, tx, os, ow, ot, rfl, hz⟩ := fx
  obtain ⟨V', F, rfl, hz'⟩ := fy
  exact ⟨rfl, I'⟩
theorem i_vc_answers {k : Nat} {u : SX} {v : SY} (I : i_Rel k u v) (hk : k + 4 ≤ 2048) : wpX_answers (fun r u' => wpY_answers (fun r' v' => r' = r ∧ i_Rel (k + 4) u' v') v) u := by
  obtain ⟨s, K, A, B, C, hW, fx, fy⟩ := I
  exact mq_answers hW fx (fun u' fx' => mz_answers hW fy (fun v' fy' => ⟨rfl, s, K, A, B, C, hW, fx', fy'⟩))
theorem i_vc_value {k : Nat} {u : SX} {v : SY} (I : i_Rel k u v) (hk : k + 4 ≤ 2048) (v1 : Int32) (v2 : Int32) : wpX_value (fun r u' => wpY_value (fun r' v' => r' = r ∧ i_Rel (k + 4) u' v') v v1 v2) u v1 v2 := by
  obtain ⟨s, K, A, B, C, hW, fx, fy⟩ := I
  have hl := sm_L_len hW
  refine mq_value hW fx (fun e => ?_) (fun e => ?_) (fun w j hw hj e1 e2 u' fx' => ?_)
  · exact mz_value hW fy (fun _ v' fy' => ⟨rfl, s, K, A, B, C, hW, fx, fy'⟩) (fun w hw ew => absurd ⟨w, hw, ew⟩ e)
  · refine mz_value hW fy (fun _ v' fy' => ⟨rfl, s, K, A, B, C, hW, fx, fy'⟩) (fun w hw ew v' fy' => ⟨?_, s, K, A, B, C, hW, fx, fy'⟩)
    exact qq_vy_neg e _ 0 (by omega)
  · refine mz_value hW fy (fun e => absurd ⟨w, hw, e1⟩ e) (fun w' hw' ew v' fy' => ⟨?_, s, K, A, B, C, hW, fx', fy'⟩)
    have e : w' = w := (nI_eq (by omega) (by omega)).mp (ew.symm.trans e1)
    subst e
    rw [e2]
    exact qq_vy_nI hj _ 0 (by omega) (Nat.zero_le _)
theorem i_vc_countWith {k : Nat} {u : SX} {v : SY} (I : i_Rel k u v) (hk : k + 4 ≤ 2048) (v1 : Int32) (v2 : Int32) : wpX_countWith (fun r u' => wpY_countWith (fun r' v' => r' = r ∧ i_Rel (k + 4) u' v') v v1 v2) u v1 v2 := by
  obtain ⟨s, K, A, B, C, hW, fx, fy⟩ := I
  refine mq_countWith hW fx (fun e => ?_) (fun w hw e1 u' fx' => ?_)
  · exact mz_countWith hW fy (fun _ v' fy' => ⟨rfl, s, K, A, B, C, hW, fx, fy'⟩) (fun w hw ew => absurd ⟨w, hw, ew⟩ e)
  · refine mz_countWith hW fy (fun e => absurd ⟨w, hw, e1⟩ e) (fun w' hw' ew v' fy' => ⟨?_, s, K, A, B, C, hW, fx', fy'⟩)
    have e : w' = w := (nI_eq (by omega) (by omega)).mp (ew.symm.trans e1)
    subst e
    rfl
theorem i_vc_firstWith {k : Nat} {u : SX} {v : SY} (I : i_Rel k u v) (hk : k + 4 ≤ 2048) (v1 : Int32) (v2 : Int32) : wpX_firstWith (fun r u' => wpY_firstWith (fun r' v' => r' = r ∧ i_Rel (k + 4) u' v') v v1 v2) u v1 v2 := by
  obtain ⟨s, K, A, B, C, hW, fx, fy⟩ := I
  refine mq_firstWith hW fx (fun e => ?_) (fun w hw e1 u' fx' => ?_)
  · exact mz_firstWith hW fy (fun _ v' fy' => ⟨rfl, s, K, A, B, C, hW, fx, fy'⟩) (fun w hw ew => absurd ⟨w, hw, ew⟩ e)
  · refine mz_firstWith hW fy (fun e => absurd ⟨w, hw, e1⟩ e) (fun w' hw' ew v' fy' => ⟨?_, s, K, A, B, C, hW, fx', fy'⟩)
    have e : w' = w := (nI_eq (by omega) (by omega)).mp (ew.symm.trans e1)
    subst e
    rfl
theorem i_vc_extreme {k : Nat} {u : SX} {v : SY} (I : i_Rel k u v) (hk : k + 4 ≤ 2048) (v1 : Int32) (v2 : Int32) : wpX_extreme (fun r u' => wpY_extreme (fun r' v' => r' = r ∧ i_Rel (k + 4) u' v') v v1 v2) u v1 v2 := by
  obtain ⟨s, K, A, B, C, hW, fx, fy⟩ := I
  refine mq_extreme hW fx (fun e => ?_) (fun e => ?_) (fun w hw e1 e2 u' fx' => ?_)
  · exact mz_extreme hW fy (fun _ v' fy' => ⟨rfl, s, K, A, B, C, hW, fx, fy'⟩) (fun _ v' fy' => ⟨rfl, s, K, A, B, C, hW, fx, fy'⟩) (fun w hw ew => absurd ⟨w, hw, ew⟩ e)
  · exact mz_extreme hW fy (fun _ v' fy' => ⟨rfl, s, K, A, B, C, hW, fx, fy'⟩) (fun _ v' fy' => ⟨rfl, s, K, A, B, C, hW, fx, fy'⟩) (fun w hw ew z => absurd z e)
  · refine mz_extreme hW fy (fun e => absurd ⟨w, hw, e1⟩ e) (fun z => absurd e2 z) (fun w' hw' ew _ v' fy' => ⟨?_, s, K, A, B, C, hW, fx', fy'⟩)
    have e : w' = w := (nI_eq (by omega) (by omega)).mp (ew.symm.trans e1)
    subst e
    rfl
theorem i_vc_ways {k : Nat} {u : SX} {v : SY} (I : i_Rel k u v) (hk : k + 4 ≤ 2048) (v1 : Int32) : wpX_ways (fun r u' => wpY_ways (fun r' v' => r' = r ∧ i_Rel (k + 4) u' v') v v1) u v1 := by
  obtain ⟨s, K, A, B, C, hW, fx, fy⟩ := I
  have hs := hW.1
  refine mq_ways hW fx (fun e => ?_) (fun n hn e1 u' fx' => ?_)
  · exact mz_ways hW fy (fun _ => ⟨rfl, s, K, A, B, C, hW, fx, fy⟩) (fun n hn en => absurd ⟨n, hn, en⟩ e)
  · refine mz_ways hW fy (fun e => absurd ⟨n, hn, e1⟩ e) (fun n' hn' en v' fy' => ⟨?_, s, K, A, B, C, hW, fx', fy'⟩)
    have e : n' = n := (nI_eq (by omega) (by omega)).mp (en.symm.trans e1)
    subst e
    rfl
end
