section
theorem pk_us {f : Nat → Int32} {k : Nat} {x : Int32} : upd f k x k = x := if_pos rfl
theorem pk_un {f : Nat → Int32} {k j : Nat} {x : Int32} (h : j ≠ k) : upd f k x j = f j := if_neg h
theorem pk_uLs {f : Nat → Int64} {k : Nat} {x : Int64} : vp_updL f k x k = x := if_pos rfl
theorem pk_uLn {f : Nat → Int64} {k j : Nat} {x : Int64} (h : j ≠ k) : vp_updL f k x j = f j := if_neg h
theorem pk_sub {a b : Nat} (h : b ≤ a) : nI a - nI b = nI (a - b) := by
  obtain ⟨c, rfl⟩ : ∃ c, a = c + b := ⟨a - b, by omega⟩
  rw [← nI_add, Int32.add_sub_cancel, Nat.add_sub_cancel]
theorem pk_m1 (n : Nat) : nI (n + 1) + (-1) = nI n := by
  rw [← nI_1, Int32.add_assoc, show (1 : Int32) + (-1) = 0 from rfl, Int32.add_zero]
theorem pk_mul (a b : Nat) : nI a * nI b = nI (a * b) := (Int32.ofNat_mul a b).symm
theorem pk_div {a d : Nat} (ha : a < 2 ^ 31) (h0 : 0 < d) (hd : d < 2 ^ 31) : nI a / nI d = nI (a / d) := by
  apply Int32.toInt_inj.mp
  rw [lg_idiv_nonneg (by rw [nI_toInt ha]; omega) (by rw [nI_toInt hd]; omega), nI_toInt ha, nI_toInt hd, nI_toInt (Nat.lt_of_le_of_lt (Nat.div_le_self a d) ha)]
  first | rfl | exact (Int.natCast_ediv _ _).symm
theorem pk_rem {a d : Nat} (ha : a < 2 ^ 31) (h0 : 0 < d) (hd : d < 2 ^ 31) : nI a - nI a / nI d * nI d = nI (a % d) := by
  rw [pk_div ha h0 hd, pk_mul, pk_sub (Nat.div_mul_le_self a d)]
  exact congrArg nI (by have := Nat.div_add_mod' a d; omega)
theorem pk_sub_toInt {a b : Nat} (ha : a < 2 ^ 30) (hb : b < 2 ^ 30) : (nI a - nI b).toInt = (a : Int) - b := by
  rw [Int32.toInt_sub, nI_toInt (by omega), nI_toInt (by omega)]
  exact Int.bmod_eq_of_le (by omega) (by omega)
theorem pk_sneg {a b : Nat} (hb : b < 2 ^ 30) (h : a < b) : nI a - nI b < 0 := by
  rw [Int32.lt_iff_toInt_lt, pk_sub_toInt (by omega) hb, show (0 : Int32).toInt = 0 from by decide]
  omega
theorem pk_ix (x : Int32) {n : Nat} (hn : n < 2 ^ 31) : x < 0 ∨ nI n ≤ x ∨ ∃ j : Nat, j < n ∧ x = nI j := by
  by_cases h : x < 0
  · exact Or.inl h
  · obtain ⟨j, hj, rfl⟩ := nI_of h
    by_cases h2 : j < n
    · exact Or.inr (Or.inr ⟨j, h2, rfl⟩)
    · exact Or.inr (Or.inl (nI_le (by omega) hj))
theorem pk_le {x y : Int32} {A B : Prop} (a b : Nat) (f : a ≤ b → A) (g : b < a → B) (hx : x = nI a := by rfl) (hy : y = nI b := by rfl) (ha : a < 2 ^ 31 := by omega) (hb : b < 2 ^ 31 := by omega) : (x ≤ y → A) ∧ (¬ x ≤ y → B) := by
  subst hx hy
  rw [nI_leI ha hb]
  exact ⟨f, fun z => g (by omega)⟩
theorem pk_lt {x y : Int32} {A B : Prop} (a b : Nat) (f : a < b → A) (g : b ≤ a → B) (hx : x = nI a := by rfl) (hy : y = nI b := by rfl) (ha : a < 2 ^ 31 := by omega) (hb : b < 2 ^ 31 := by omega) : (x < y → A) ∧ (¬ x < y → B) := by
  subst hx hy
  rw [nI_ltI ha hb]
  exact ⟨f, fun z => g (by omega)⟩
theorem pk_eq {x y : Int32} {A B : Prop} (a b : Nat) (f : a = b → A) (g : a ≠ b → B) (hx : x = nI a := by rfl) (hy : y = nI b := by rfl) (ha : a < 2 ^ 31 := by omega) (hb : b < 2 ^ 31 := by omega) : (x = y → A) ∧ (¬ x = y → B) := by
  subst hx hy
  rw [nI_eq ha hb]
  exact ⟨f, g⟩
theorem pk_in {x : Int32} (n N : Nat) (h : n < N) (hx : x = nI n := by rfl) (hN : N < 2 ^ 31 := by omega) : vp_in x N := by
  subst hx
  exact vp_in_nI h hN
theorem pk_cl {x : Int32} (n : Nat) (hx : x = nI n := by rfl) (h : n < 2 ^ 31 := by omega) : x.toNatClampNeg = n := by
  subst hx
  exact nI_clamp h
theorem pk_tn {n : Nat} (h : n < 2 ^ 32) : (nI n).toBitVec.toNat = n := Nat.mod_eq_of_lt h
theorem pk_and (x : Int32) {m : Int32} (k : Nat) (hm : m.toBitVec.toNat = 2 ^ k - 1) : x &&& m = nI (x.toBitVec.toNat % 2 ^ k) := by
  apply Int32.toBitVec_inj.mp
  apply BitVec.eq_of_toNat_eq
  rw [Int32.toBitVec_and, BitVec.toNat_and, hm, Nat.and_two_pow_sub_one_eq_mod]
  show _ = (BitVec.ofNat 32 _).toNat
  rw [BitVec.toNat_ofNat]
  exact (Nat.mod_eq_of_lt (Nat.lt_of_le_of_lt (Nat.mod_le _ _) x.toBitVec.isLt)).symm
theorem pk_andN {n : Nat} (h : n < 2 ^ 32) {m : Int32} (k : Nat) (hm : m.toBitVec.toNat = 2 ^ k - 1) : nI n &&& m = nI (n % 2 ^ k) := by
  rw [pk_and _ k hm, pk_tn h]
def bt (x : Int32) (i : Nat) : Bool := x.toBitVec.getLsbD i
theorem b_ext {x y : Int32} (h : ∀ i, i < 32 → bt x i = bt y i) : x = y := Int32.toBitVec_inj.mp (BitVec.eq_of_getLsbD_eq (fun i hi => h i hi))
theorem b_or (x y : Int32) (i : Nat) : bt (x ||| y) i = (bt x i || bt y i) := by unfold bt; rw [Int32.toBitVec_or, BitVec.getLsbD_or]
theorem b_and (x y : Int32) (i : Nat) : bt (x &&& y) i = (bt x i && bt y i) := by unfold bt; rw [Int32.toBitVec_and, BitVec.getLsbD_and]
theorem b_big {x : Int32} {i : Nat} (h : 32 ≤ i) : bt x i = false := BitVec.getLsbD_of_ge _ _ h
theorem b_0 (i : Nat) : bt 0 i = false := BitVec.getLsbD_zero
theorem s_l : ∀ n, n < 32 → ((nI n &&& 31).toBitVec.smod 32).toNat = n := by decide +kernel
theorem b_shl (n : Nat) (hn : n < 32) (x : Int32) {i : Nat} (hi : i < 32) : bt (x <<< (nI n &&& 31)) i = (decide (n ≤ i) && bt x (i - n)) := by
  unfold bt
  rw [Int32.toBitVec_shiftLeft]
  show (x.toBitVec <<< ((nI n &&& 31).toBitVec.smod 32).toNat).getLsbD i = _
  rw [s_l n hn, BitVec.getLsbD_shiftLeft]
  rcases Nat.lt_or_ge i n with h | h
  · simp [h, Nat.not_le.mpr h]
  · simp [hi, h, Nat.not_lt.mpr h]
theorem b_sshr (n : Nat) (hn : n < 32) (x : Int32) {i : Nat} (hi : i < 32) : bt (x >>> (nI n &&& 31)) i = if n + i < 32 then bt x (n + i) else bt x 31 := by
  unfold bt
  rw [Int32.toBitVec_shiftRight]
  show (x.toBitVec.sshiftRight ((nI n &&& 31).toBitVec.smod 32).toNat).getLsbD i = _
  rw [s_l n hn, BitVec.getLsbD_sshiftRight, BitVec.msb_eq_getLsbD_last]
  simp [hi]
theorem wb_tb (n : Nat) : (lN n).toBitVec = BitVec.ofNat 64 n := rfl
theorem wb_inj {a b : Int64} (h : a.toBitVec = b.toBitVec) : a = b := Int64.toBitVec_inj.mp h
theorem wb_tn {n : Nat} (h : n < 2 ^ 64) : (lN n).toBitVec.toNat = n := by rw [wb_tb, BitVec.toNat_ofNat, Nat.mod_eq_of_lt h]
theorem wb_c : ∀ k, k < 64 → ((nI k).toInt64 &&& 63) = lN k := by decide +kernel
theorem wb_cu : ∀ k, k < 64 → ((nI k).toInt64.toUInt64 &&& Int64.toUInt64 63) = UInt64.ofNat k := by decide +kernel
theorem wb_sm : ∀ k, k < 64 → (BitVec.ofNat 64 k).smod 64 = BitVec.ofNat 64 k := by decide +kernel
theorem wb_shr {n k : Nat} (hn : n < 2 ^ 64) (hk : k < 64) : ((lN n).toUInt64 >>> ((nI k).toInt64.toUInt64 &&& Int64.toUInt64 63)).toInt64 = lN (n / 2 ^ k) := by
  rw [wb_cu k hk]
  apply wb_inj
  apply BitVec.eq_of_toNat_eq
  show ((lN n).toUInt64 >>> UInt64.ofNat k).toNat = (BitVec.ofNat 64 _).toNat
  have h1 : (UInt64.ofNat k).toNat = k := by
    show (BitVec.ofNat 64 k).toNat = k
    rw [BitVec.toNat_ofNat, Nat.mod_eq_of_lt (by omega)]
  have h2 : (lN n).toUInt64.toNat = n := wb_tn hn
  rw [UInt64.toNat_shiftRight, h1, h2, Nat.mod_eq_of_lt hk, Nat.shiftRight_eq_div_pow, BitVec.toNat_ofNat, Nat.mod_eq_of_lt (Nat.lt_of_le_of_lt (Nat.div_le_self _ _) hn)]
theorem wb_shl (n : Nat) {k : Nat} (hk : k < 64) : lN n <<< ((nI k).toInt64 &&& 63) = lN (n * 2 ^ k) := by
  rw [wb_c k hk]
  apply wb_inj
  rw [Int64.toBitVec_shiftLeft, wb_tb, wb_tb, wb_tb, wb_sm k hk]
  apply BitVec.eq_of_toNat_eq
  rw [BitVec.shiftLeft_eq', BitVec.toNat_shiftLeft, BitVec.toNat_ofNat, BitVec.toNat_ofNat, BitVec.toNat_ofNat, Nat.mod_eq_of_lt (show k < 2 ^ 64 by omega), Nat.shiftLeft_eq, Nat.mul_mod, Nat.mod_mod, ← Nat.mul_mod]
end
section
/-! truth values, counts, the formulas' meaning -/
def ca_b (b : Bool) : Int32 := if b then 1 else 0
theorem ca_n1 : ¬ (1 : Int32) = 0 := by decide
theorem ca_b_z {b : Bool} (h : b = false) : ca_b b = 0 := by rw [h]; rfl
theorem ca_b_nz {b : Bool} (h : b = true) : ¬ ca_b b = 0 := by rw [h]; exact ca_n1
theorem ca_bn (b : Bool) : narrow .boolean (.int (ca_b b)) = .int (ca_b b) := by cases b <;> rfl
theorem ca_bv (b : Bool) : vp_nar .boolean (ca_b b) = ca_b b := by cases b <;> rfl
/-- a branch on a truth value -/
theorem ca_br {A B : Prop} (b : Bool) (f : b = false → A) (g : b = true → B) : (ca_b b = 0 → A) ∧ (¬ ca_b b = 0 → B) := by
  cases b
  · exact br_t rfl (f rfl)
  · exact br_f ca_n1 (g rfl)
theorem ca_dc {c : Prop} [Decidable c] {post : Int32 → Prop} (hp : post (ca_b (decide c))) : (c → post 1) ∧ (¬ c → post 0) := by
  constructor
  · intro h; rw [decide_eq_true h] at hp; exact hp
  · intro h; rw [decide_eq_false h] at hp; exact hp
theorem ca_dr {c : Prop} [Decidable c] {post : Int32 → Prop} (hp : post (ca_b (decide (¬ c)))) : (c → post 0) ∧ (¬ c → post 1) := by
  constructor
  · intro h; rw [decide_eq_false (fun z => z h)] at hp; exact hp
  · intro h; rw [decide_eq_true h] at hp; exact hp
theorem ca_same {post : Int32 → Prop} (b : Bool) (hp : post (ca_b b)) : (ca_b b = 0 → post 0) ∧ (¬ ca_b b = 0 → post 1) := by
  cases b
  · exact br_t rfl hp
  · exact br_f ca_n1 hp
theorem ca_not {post : Int32 → Prop} (b : Bool) (hp : post (ca_b (!b))) : (ca_b b = 0 → post 1) ∧ (¬ ca_b b = 0 → post 0) := by
  cases b
  · exact br_t rfl hp
  · exact br_f ca_n1 hp
/-- at how many of the first m calls -/
def ca_cnt (f : Nat → Bool) : Nat → Nat
  | 0 => 0
  | m + 1 => ca_cnt f m + (if f m then 1 else 0)
theorem ca_cnt_le (f : Nat → Bool) : ∀ m, ca_cnt f m ≤ m
  | 0 => Nat.le_refl _
  | m + 1 => by
    have h := ca_cnt_le f m
    unfold ca_cnt
    split <;> omega
theorem ca_cnt_t {f : Nat → Bool} {m : Nat} (h : f m = true) : ca_cnt f (m + 1) = ca_cnt f m + 1 := by
  show ca_cnt f m + (if f m then 1 else 0) = _
  rw [if_pos h]
theorem ca_cnt_f {f : Nat → Bool} {m : Nat} (h : f m = false) : ca_cnt f (m + 1) = ca_cnt f m := by
  show ca_cnt f m + (if f m then 1 else 0) = _
  rw [h]; rfl
theorem ca_cnt_c {f f' : Nat → Bool} : ∀ m, (∀ j, j < m → f j = f' j) → ca_cnt f m = ca_cnt f' m
  | 0, _ => rfl
  | m + 1, h => by
    have h1 := ca_cnt_c m (fun j hj => h j (by omega))
    show ca_cnt f m + (if f m then 1 else 0) = ca_cnt f' m + (if f' m then 1 else 0)
    rw [h1, h m (by omega)]
def ca_sin (f g : Nat → Bool) : Nat → Bool
  | 0 => false
  | m + 1 => g m || (f m && ca_sin f g m)
theorem ca_sin_c {f f' g g' : Nat → Bool} : ∀ m, (∀ j, j < m → f j = f' j) → (∀ j, j < m → g j = g' j) → ca_sin f g m = ca_sin f' g' m
  | 0, _, _ => rfl
  | m + 1, h, h' => by
    have h1 := ca_sin_c m (fun j hj => h j (by omega)) (fun j hj => h' j (by omega))
    show (g m || (f m && ca_sin f g m)) = (g' m || (f' m && ca_sin f' g' m))
    rw [h1, h m (by omega), h' m (by omega)]
/-- how many parts a token takes -/
def ca_tk (k : Nat) : Nat := if k < 6 then 0 else if k = 8 ∨ k = 11 ∨ k = 12 then 2 else 1
theorem ca_tk0 {k : Nat} (h : k < 6) : ca_tk k = 0 := if_pos h
theorem ca_tk2 {k : Nat} (h : k = 8 ∨ k = 11 ∨ k = 12) : ca_tk k = 2 := by
  unfold ca_tk; rw [if_neg (by omega), if_pos h]
theorem ca_tk1 {k : Nat} (h6 : 6 ≤ k) (h : ¬ (k = 8 ∨ k = 11 ∨ k = 12)) : ca_tk k = 1 := by
  unfold ca_tk; rw [if_neg (by omega), if_neg h]
theorem ca_tk_le (k : Nat) : ca_tk k ≤ 2 := by unfold ca_tk; split; omega; split <;> omega
theorem ca_tk_pos {k : Nat} (h : 6 ≤ k) : 1 ≤ ca_tk k := by unfold ca_tk; rw [if_neg (by omega)]; split <;> omega
theorem ca_tk_z {k : Nat} (h : ca_tk k = 0) : k < 6 := by
  rcases Nat.lt_or_ge k 6 with z | z
  · exact z
  · have := ca_tk_pos z; omega
/-- a part made of others at call i, f being its first part's row, g its second's -/
def ca_jn (k : Nat) (a : Int32) (f g : Nat → Bool) (i : Nat) : Bool :=
  match k with
  | 6 => decide (¬ nI (ca_cnt f (i + 1)) ≤ 0)
  | 7 => decide (¬ nI (ca_cnt f i) ≤ 0)
  | 8 => ca_sin f g (i + 1)
  | 9 => decide (¬ nI (ca_cnt f (i + 1)) < a)
  | 10 => !f i
  | 11 => f i && g i
  | 12 => f i || g i
  | _ => f i && decide (nI (ca_cnt f (i + 1)) = 1)
theorem ca_jn_c {k : Nat} {a : Int32} {f f' g g' : Nat → Bool} {i : Nat} (h : ∀ j, j ≤ i → f j = f' j) (h' : ∀ j, j ≤ i → g j = g' j) : ca_jn k a f g i = ca_jn k a f' g' i := by
  have c1 := ca_cnt_c (f := f) (f' := f') (i + 1) (fun j hj => h j (by omega))
  have c2 := ca_cnt_c (f := f) (f' := f') i (fun j hj => h j (by omega))
  have c3 := ca_sin_c (f := f) (f' := f') (g := g) (g' := g') (i + 1) (fun j hj => h j (by omega)) (fun j hj => h' j (by omega))
  have c4 := h i (Nat.le_refl _)
  have c5 := h' i (Nat.le_refl _)
  unfold ca_jn
  split <;> simp only [c1, c2, c3, c4, c5]
/-- a plain part at call i -/
def ca_sm (kin cl nm mk me : Nat → Int32) (k : Nat) (a : Int32) (i : Nat) : Bool :=
  match k with
  | 0 => decide (nm (me i).toNatClampNeg = a)
  | 1 => decide (cl (me i).toNatClampNeg = a)
  | 2 => decide (((kin (cl (me i).toNatClampNeg).toNatClampNeg >>> (a &&& 31)) &&& 1) = 1)
  | 3 => decide (((mk (me i).toNatClampNeg >>> (a &&& 31)) &&& 1) = 1)
  | 4 => !decide (i = 0) && decide (((kin (cl (me (i - 1)).toNatClampNeg).toNatClampNeg >>> (a &&& 31)) &&& 1) = 1)
  | _ => decide (¬ nI i < a)
theorem ca_sm_c {kin cl nm mk me me' : Nat → Int32} {k : Nat} {a : Int32} {i : Nat} (h : ∀ j, j ≤ i → me j = me' j) : ca_sm kin cl nm mk me k a i = ca_sm kin cl nm mk me' k a i := by
  have c1 := h i (Nat.le_refl _)
  have c2 := h (i - 1) (by omega)
  unfold ca_sm
  split <;> simp only [c1, c2]
/-- the first part of token t -/
def ca_op (kd sp : Nat → Nat) (t : Nat) : Nat := if ca_tk (kd t) = 2 then t - 1 - sp (t - 1) else t - 1
/-- rows of the first t tokens -/
def ca_Tb (sm : Nat → Nat → Bool) (kd : Nat → Nat) (A : Nat → Int32) (sp : Nat → Nat) : Nat → Nat → Nat → Bool
  | 0 => fun _ _ => false
  | t + 1 => fun s i => if s = t then (if kd t < 6 then sm t i else ca_jn (kd t) (A t) (ca_Tb sm kd A sp t (ca_op kd sp t)) (ca_Tb sm kd A sp t (t - 1)) i) else ca_Tb sm kd A sp t s i
def ca_V (sm : Nat → Nat → Bool) (kd : Nat → Nat) (A : Nat → Int32) (sp : Nat → Nat) (s : Nat) : Nat → Bool := fun i => ca_Tb sm kd A sp (s + 1) s i
theorem ca_Tb_V {sm : Nat → Nat → Bool} {kd : Nat → Nat} {A : Nat → Int32} {sp : Nat → Nat} : ∀ t s, s < t → ca_Tb sm kd A sp t s = ca_V sm kd A sp s
  | 0, s, h => absurd h (Nat.not_lt_zero s)
  | t + 1, s, h => by
    by_cases e : s = t
    · subst e; rfl
    · have ih := ca_Tb_V (sm := sm) (kd := kd) (A := A) (sp := sp) t s (by omega)
      rw [← ih]
      funext i
      show (if s = t then _ else ca_Tb sm kd A sp t s i) = _
      rw [if_neg e]
theorem ca_op_lt {kd sp : Nat → Nat} {t : Nat} (h : 1 ≤ t) : ca_op kd sp t < t := by unfold ca_op; split <;> omega
theorem ca_V0 {sm : Nat → Nat → Bool} {kd : Nat → Nat} {A : Nat → Int32} {sp : Nat → Nat} {t : Nat} (h : kd t < 6) (i : Nat) : ca_V sm kd A sp t i = sm t i := by
  show (if t = t then (if kd t < 6 then _ else _) else _) = _
  rw [if_pos rfl, if_pos h]
theorem ca_V1 {sm : Nat → Nat → Bool} {kd : Nat → Nat} {A : Nat → Int32} {sp : Nat → Nat} {t : Nat} (h : 6 ≤ kd t) (h1 : 1 ≤ t) (i : Nat) : ca_V sm kd A sp t i = ca_jn (kd t) (A t) (ca_V sm kd A sp (ca_op kd sp t)) (ca_V sm kd A sp (t - 1)) i := by
  show (if t = t then (if kd t < 6 then _ else ca_jn (kd t) (A t) (ca_Tb sm kd A sp t (ca_op kd sp t)) (ca_Tb sm kd A sp t (t - 1)) i) else _) = _
  rw [if_pos rfl, if_neg (by omega), ca_Tb_V t _ (ca_op_lt h1), ca_Tb_V t (t - 1) (by omega)]
theorem ca_Tb_c {sm sm' : Nat → Nat → Bool} {kd : Nat → Nat} {A : Nat → Int32} {sp : Nat → Nat} {i : Nat} (h : ∀ s j, j ≤ i → sm s j = sm' s j) : ∀ t s j, j ≤ i → ca_Tb sm kd A sp t s j = ca_Tb sm' kd A sp t s j
  | 0, _, _, _ => rfl
  | t + 1, s, j, hj => by
    have ih := ca_Tb_c (kd := kd) (A := A) (sp := sp) h t
    show (if s = t then (if kd t < 6 then sm t j else ca_jn (kd t) (A t) (ca_Tb sm kd A sp t (ca_op kd sp t)) (ca_Tb sm kd A sp t (t - 1)) j) else ca_Tb sm kd A sp t s j) = (if s = t then (if kd t < 6 then sm' t j else ca_jn (kd t) (A t) (ca_Tb sm' kd A sp t (ca_op kd sp t)) (ca_Tb sm' kd A sp t (t - 1)) j) else ca_Tb sm' kd A sp t s j)
    rw [h t j hj, ih s j hj, ca_jn_c (f := ca_Tb sm kd A sp t (ca_op kd sp t)) (f' := ca_Tb sm' kd A sp t (ca_op kd sp t)) (g := ca_Tb sm kd A sp t (t - 1)) (g' := ca_Tb sm' kd A sp t (t - 1)) (fun q hq => ih _ q (by omega)) (fun q hq => ih _ q (by omega))]
theorem ca_V_c {sm sm' : Nat → Nat → Bool} {kd : Nat → Nat} {A : Nat → Int32} {sp : Nat → Nat} {i : Nat} (h : ∀ s j, j ≤ i → sm s j = sm' s j) (s j : Nat) (hj : j ≤ i) : ca_V sm kd A sp s j = ca_V sm' kd A sp s j := ca_Tb_c h (s + 1) s j hj
/-! the stack of parts -/
def ca_hg (kd : Nat → Nat) : Nat → Nat
  | 0 => 0
  | t + 1 => ca_hg kd t - ca_tk (kd t) + 1
def ca_ps (kd : Nat → Nat) : Nat → Nat → Nat
  | 0 => fun _ => 0
  | t + 1 => fun j => if j = ca_hg kd t - ca_tk (kd t) then t else ca_ps kd t j
def ca_sr (kd sp : Nat → Nat) (t : Nat) : Nat := if ca_tk (kd t) = 0 then 1 else if ca_tk (kd t) = 1 then 1 + sp (t - 1) else 1 + sp (t - 1) + sp (t - 1 - sp (t - 1))
def ca_W1 (kd sp : Nat → Nat) (t : Nat) : Prop := ca_tk (kd t) ≤ ca_hg kd t ∧ ca_hg kd (t + 1) ≤ 6 ∧ sp t ≤ t + 1 ∧ sp t = ca_sr kd sp t
theorem ca_hg_c {kd kd' : Nat → Nat} : ∀ t, (∀ s, s < t → kd s = kd' s) → ca_hg kd t = ca_hg kd' t
  | 0, _ => rfl
  | t + 1, h => by
    have ih := ca_hg_c t (fun s hs => h s (by omega))
    show ca_hg kd t - ca_tk (kd t) + 1 = ca_hg kd' t - ca_tk (kd' t) + 1
    rw [ih, h t (by omega)]
theorem ca_hg_pos {kd : Nat → Nat} {t : Nat} (h : 1 ≤ t) : 1 ≤ ca_hg kd t := by
  obtain ⟨s, rfl⟩ : ∃ s, t = s + 1 := ⟨t - 1, by omega⟩
  show 1 ≤ ca_hg kd s - ca_tk (kd s) + 1
  omega
theorem ca_hg_zero {kd : Nat → Nat} {t : Nat} (h : 1 ≤ ca_hg kd t) : 1 ≤ t := by
  cases t with
  | zero => exact absurd (show 1 ≤ 0 from h) (by decide)
  | succ t => omega
/-- what stands on the stack of parts after t tokens -/
def ca_Ch (kd sp : Nat → Nat) (t : Nat) : Prop :=
  (1 ≤ t → ca_ps kd t (ca_hg kd t - 1) = t - 1) ∧ (∀ j, j < ca_hg kd t → ca_ps kd t j < t) ∧ (∀ j, j + 1 < ca_hg kd t → ca_ps kd t j + sp (ca_ps kd t (j + 1)) = ca_ps kd t (j + 1))
theorem ca_ps_s {kd : Nat → Nat} {t j : Nat} (h : j = ca_hg kd t - ca_tk (kd t)) : ca_ps kd (t + 1) j = t := by
  show (if j = ca_hg kd t - ca_tk (kd t) then t else ca_ps kd t j) = t
  rw [if_pos h]
theorem ca_ps_n {kd : Nat → Nat} {t j : Nat} (h : j ≠ ca_hg kd t - ca_tk (kd t)) : ca_ps kd (t + 1) j = ca_ps kd t j := by
  show (if j = ca_hg kd t - ca_tk (kd t) then t else ca_ps kd t j) = _
  rw [if_neg h]
theorem ca_chain {kd sp : Nat → Nat} : ∀ t, (∀ s, s < t → ca_W1 kd sp s) → ca_Ch kd sp t
  | 0, _ => ⟨fun h => absurd h (by decide), fun j h => absurd h (Nat.not_lt_zero j), fun j h => absurd h (Nat.not_lt_zero _)⟩
  | t + 1, h => by
    obtain ⟨c1, c2, c3⟩ := ca_chain (kd := kd) (sp := sp) t (fun s hs => h s (by omega))
    obtain ⟨w1, w2, w3, w4⟩ := h t (by omega)
    have eh : ca_hg kd (t + 1) = ca_hg kd t - ca_tk (kd t) + 1 := rfl
    have tk2 := ca_tk_le (kd t)
    refine ⟨fun _ => ?_, fun j hj => ?_, fun j hj => ?_⟩
    · rw [eh]; exact ca_ps_s (by omega)
    · by_cases e : j = ca_hg kd t - ca_tk (kd t)
      · rw [ca_ps_s e]; omega
      · rw [ca_ps_n e]; have := c2 j (by omega); omega
    · rw [eh] at hj
      have e1 : j ≠ ca_hg kd t - ca_tk (kd t) := by omega
      rw [ca_ps_n e1]
      by_cases e : j + 1 = ca_hg kd t - ca_tk (kd t)
      · rw [ca_ps_s e, w4]
        have ht : 1 ≤ t := ca_hg_zero (kd := kd) (by omega)
        have d1 := c1 ht
        unfold ca_sr
        split
        · rename_i z
          have : j = ca_hg kd t - 1 := by omega
          rw [this, d1]; omega
        · split
          · rename_i z1 z2
            have d3 := c3 j (by omega)
            have e2 : j + 1 = ca_hg kd t - 1 := by omega
            rw [e2, d1] at d3
            omega
          · rename_i z1 z2
            have d3 := c3 j (by omega)
            have d4 := c3 (j + 1) (by omega)
            have e2 : j + 1 + 1 = ca_hg kd t - 1 := by omega
            rw [e2, d1] at d4
            have e3 : t - 1 - sp (t - 1) = ca_ps kd t (j + 1) := by omega
            rw [e3]
            omega
      · rw [ca_ps_n e]; exact c3 j (by omega)
/-- the first part stands where the stack of parts says -/
theorem ca_op1 {kd sp : Nat → Nat} {t : Nat} (h : ca_Ch kd sp t) (w : ca_tk (kd t) ≤ ca_hg kd t) (h6 : 6 ≤ kd t) : ca_ps kd t (ca_hg kd t - ca_tk (kd t)) = ca_op kd sp t := by
  obtain ⟨c1, c2, c3⟩ := h
  have p := ca_tk_pos h6
  have q := ca_tk_le (kd t)
  have ht : 1 ≤ t := ca_hg_zero (kd := kd) (by omega)
  have d1 := c1 ht
  unfold ca_op
  split
  · rename_i z
    have d3 := c3 (ca_hg kd t - 2) (by omega)
    have e : ca_hg kd t - 2 + 1 = ca_hg kd t - 1 := by omega
    rw [e, d1] at d3
    rw [z]
    omega
  · rename_i z
    have : ca_tk (kd t) = 1 := by omega
    rw [this]; exact d1
end
section
/-! bits, counts of four bits, indices -/
theorem ca_bit {x : Int32} {t : Nat} (ht : t < 32) : ((x >>> (nI t &&& 31)) &&& 1) = 1 ↔ bt x t = true := by
  have e := b_sshr t ht x (i := 0) (by decide)
  rw [Nat.add_zero, if_pos ht] at e
  rw [← e]
  generalize x >>> (nI t &&& 31) = y
  rw [pk_and y (m := 1) 1 (by decide)]
  unfold bt
  have e3 : y.toBitVec.getLsbD 0 = decide (y.toBitVec.toNat % 2 = 1) := by
    show y.toBitVec.toNat.testBit 0 = _
    rw [Nat.testBit_zero]
  rw [e3, decide_eq_true_eq]
  show nI (y.toBitVec.toNat % 2) = nI 1 ↔ _
  rw [nI_eq (by omega) (by omega)]
theorem ca_xbit {post : Int32 → Prop} {x : Int32} {t : Nat} (ht : t < 32) (h : post (ca_b (bt x t))) : wpX_bit post x (nI t) := by
  unfold wpX_bit
  by_cases e : bt x t = true
  · exact br_t ((ca_bit ht).mpr e) (by rw [e] at h; exact h)
  · exact br_f (fun z => e ((ca_bit ht).mp z)) (by rw [Bool.eq_false_iff.mpr e] at h; exact h)
theorem ca_1bt : ∀ i, i < 32 → bt 1 i = decide (i = 0) := by decide +kernel
theorem ca_shl1 {t s : Nat} (ht : t < 32) (hs : s < 32) : bt ((1 : Int32) <<< (nI t &&& 31)) s = decide (s = t) := by
  rw [b_shl t ht 1 hs, ca_1bt (s - t) (by omega)]
  by_cases e : s = t
  · rw [decide_eq_true e, decide_eq_true (show t ≤ s by omega), decide_eq_true (show s - t = 0 by omega)]; rfl
  · rw [decide_eq_false e]
    by_cases l : t ≤ s
    · rw [decide_eq_false (show ¬ s - t = 0 by omega), Bool.and_false]
    · rw [decide_eq_false l, Bool.false_and]
theorem ca_or1 {x : Int32} {t s : Nat} (ht : t < 32) (hs : s < 32) : bt (x ||| ((1 : Int32) <<< (nI t &&& 31))) s = (bt x s || decide (s = t)) := by
  rw [b_or, ca_shl1 ht hs]
theorem ca_or0 (x : Int32) : x ||| 0 = x := b_ext (fun i _ => by rw [b_or, b_0, Bool.or_false])
def ca_nb (m s : Nat) : Nat := m / 16 ^ s % 16
theorem ca_nb_lt (m s : Nat) : ca_nb m s < 16 := Nat.mod_lt _ (by decide)
theorem ca_nb_up {m t : Nat} (h : ca_nb m t < 15) (s : Nat) : ca_nb (m + 16 ^ t) s = if s = t then ca_nb m t + 1 else ca_nb m s := by
  have hp : 0 < 16 ^ t := Nat.pow_pos (by decide)
  have e0 : (m + 16 ^ t) / 16 ^ t = m / 16 ^ t + 1 := Nat.add_div_right m hp
  unfold ca_nb at *
  by_cases e : s = t
  · subst e
    rw [if_pos rfl, e0]
    omega
  · rw [if_neg e]
    rcases Nat.lt_or_ge s t with l | l
    · obtain ⟨r, rfl⟩ : ∃ r, t = s + (1 + r) := ⟨t - s - 1, by omega⟩
      have hs : 0 < 16 ^ s := Nat.pow_pos (by decide)
      rw [Nat.pow_add 16 s (1 + r), Nat.add_mul_div_left m _ hs, Nat.pow_add 16 1 r]
      generalize m / 16 ^ s = a
      generalize 16 ^ r = b
      omega
    · obtain ⟨r, rfl⟩ : ∃ r, s = t + (1 + r) := ⟨s - t - 1, by omega⟩
      rw [Nat.pow_add 16 t (1 + r), ← Nat.div_div_eq_div_mul, ← Nat.div_div_eq_div_mul, e0, Nat.pow_add 16 1 r, ← Nat.div_div_eq_div_mul, ← Nat.div_div_eq_div_mul]
      have : (m / 16 ^ t + 1) / 16 ^ 1 = m / 16 ^ t / 16 ^ 1 := by omega
      rw [this]
theorem ca_nb_in {m t : Nat} (hm : m < 2 ^ 64) (ht : t < 16) (h : ca_nb m t < 15) : m + 16 ^ t < 2 ^ 64 := by
  have hp : 0 < 16 ^ t := Nat.pow_pos (by decide)
  have e0 : (m + 16 ^ t) / 16 ^ t = m / 16 ^ t + 1 := Nat.add_div_right m hp
  have e1 : (2 : Nat) ^ 64 = (16 * 16 ^ (15 - t)) * 16 ^ t := by
    rw [show (16 : Nat) * 16 ^ (15 - t) = 16 ^ 1 * 16 ^ (15 - t) from rfl, ← Nat.pow_add, ← Nat.pow_add, show 1 + (15 - t) + t = 16 by omega]
  rw [e1] at hm ⊢
  rw [← Nat.div_lt_iff_lt_mul hp] at hm ⊢
  rw [e0]
  unfold ca_nb at h
  generalize m / 16 ^ t = a at *
  generalize 16 ^ (15 - t) = b at *
  omega
theorem ca_i4 (t : Nat) : (4 : Int32) * nI t = nI (4 * t) := pk_mul 4 t
theorem ca_ctd {m t : Nat} (hm : m < 2 ^ 64) (ht : t < 16) : ((((lN m).toUInt64 >>> ((4 * nI t).toInt64.toUInt64 &&& Int64.toUInt64 63)).toInt64).toInt32) &&& 15 = nI (ca_nb m t) := by
  rw [ca_i4, wb_shr hm (by omega), lN_i, pk_and _ (m := 15) 4 (by decide)]
  show nI ((m / 2 ^ (4 * t)) % 2 ^ 32 % 2 ^ 4) = nI (m / 16 ^ t % 16)
  rw [Nat.mod_mod_of_dvd _ (by decide : 2 ^ 4 ∣ 2 ^ 32), Nat.pow_mul]
theorem ca_xctd {post : Int32 → Prop} {m t : Nat} (hm : m < 2 ^ 64) (ht : t < 16) (h : post (nI (ca_nb m t))) : wpX_counted post (lN m) (nI t) := by
  unfold wpX_counted
  rw [ca_ctd hm ht]
  exact h
def ca_up (m t : Nat) : Nat := if ca_nb m t < 5 then m + 16 ^ t else m
theorem ca_xup {post : Int64 → Prop} {m t : Nat} (hm : m < 2 ^ 64) (ht : t < 16) (h : post (lN (ca_up m t))) : wpX_countUp post (lN m) (nI t) := by
  unfold wpX_countUp
  refine ca_xctd hm ht ?_
  have l16 := ca_nb_lt m t
  unfold ca_up at h
  refine pk_lt (ca_nb m t) 5 (fun l => ?_) (fun l => ?_) rfl rfl (by omega) (by omega)
  · rw [if_pos l] at h
    rw [ca_i4, show (1 : Int64) = lN 1 from rfl, wb_shl 1 (by omega), lN_add, Nat.one_mul, Nat.pow_mul]
    exact h
  · rw [if_neg (by omega)] at h
    exact h
theorem ca_up_in {m t : Nat} (hm : m < 2 ^ 64) (ht : t < 16) : ca_up m t < 2 ^ 64 := by
  unfold ca_up
  split
  · exact ca_nb_in hm ht (by omega)
  · exact hm
theorem ca_up_nb {m t : Nat} (s : Nat) : ca_nb (ca_up m t) s = if s = t then (if ca_nb m t < 5 then ca_nb m t + 1 else ca_nb m t) else ca_nb m s := by
  unfold ca_up
  by_cases h : ca_nb m t < 5
  · rw [if_pos h, if_pos h, ca_nb_up (by omega)]
  · rw [if_neg h, if_neg h]
    by_cases e : s = t
    · rw [if_pos e, e]
    · rw [if_neg e]
theorem ca_i20 (f j : Nat) : (20 : Int32) * nI f + nI j = nI (20 * f + j) := by
  show nI 20 * nI f + nI j = _
  rw [pk_mul, nI_add]
theorem ca_i16 (f j : Nat) : (16 : Int32) * nI f + nI j = nI (16 * f + j) := by
  show nI 16 * nI f + nI j = _
  rw [pk_mul, nI_add]
theorem ca_i21 (f j : Nat) : (21 : Int32) * nI f + nI j = nI (21 * f + j) := by
  show nI 21 * nI f + nI j = _
  rw [pk_mul, nI_add]
theorem ca_m1lt {m j : Nat} (hm : m ≤ 1000) (hj : j ≤ 1000) : nI m - 1 < nI j ↔ m ≤ j := by
  rw [Int32.lt_iff_toInt_lt, show (1 : Int32) = nI 1 from rfl, pk_sub_toInt (by omega) (by omega), nI_toInt (by omega)]
  omega
theorem ca_pm {t : Nat} (h : 1 ≤ t) : nI t - 1 = nI (t - 1) := pk_sub (b := 1) h
theorem ca_am (m : Nat) : nI m + (-1) = nI m - 1 := by rw [Int32.sub_eq_add_neg]
theorem ca_neg {m : Nat} (hm : m < 2 ^ 31) : ¬ (-1 : Int32) = nI m := by
  intro h
  have := congrArg Int32.toInt h
  rw [nI_toInt hm, show (-1 : Int32).toInt = -1 from by decide] at this
  omega
/-- what is kept of a piece after m calls -/
def ca_hp (V : Nat → Nat → Bool) (s : Nat) : Nat → Bool
  | 0 => false
  | m + 1 => V s m
def ca_PV (V : Nat → Nat → Bool) (n m : Nat) (h e : Int32) (o : Int64) : Prop :=
  (∀ s, s < n → bt h s = ca_hp V s m) ∧ (∀ s, s < n → bt e s = decide (0 < ca_cnt (V s) m)) ∧ ∃ q, q < 2 ^ 64 ∧ o = lN q ∧ ∀ s, s < n → ca_nb q s = min 5 (ca_cnt (V s) m)
theorem ca_PV0 (V : Nat → Nat → Bool) (n : Nat) : ca_PV V n 0 0 0 0 := by
  refine ⟨fun s _ => b_0 s, fun s _ => ?_, 0, by decide, rfl, fun s _ => ?_⟩
  · rw [b_0]; exact (decide_eq_false (Nat.lt_irrefl 0)).symm
  · show 0 / 16 ^ s % 16 = min 5 0
    rw [Nat.zero_div]
    rfl
theorem ca_PVc {V V' : Nat → Nat → Bool} {n m : Nat} {h e : Int32} {o : Int64} (hv : ∀ s j, j < m → V s j = V' s j) (H : ca_PV V n m h e o) : ca_PV V' n m h e o := by
  obtain ⟨a, b, q, c, d, f⟩ := H
  refine ⟨fun s hs => ?_, fun s hs => ?_, q, c, d, fun s hs => ?_⟩
  · rw [a s hs]
    cases m with
    | zero => rfl
    | succ m => exact hv s m (by omega)
  · rw [b s hs, ca_cnt_c (f := V s) (f' := V' s) m (fun j hj => hv s j hj)]
  · rw [f s hs, ca_cnt_c (f := V s) (f' := V' s) m (fun j hj => hv s j hj)]
end
section
/-! the reference's private methods -/
def ca_FK (par kin : Nat → Int32) : Prop := ∀ k, k < 8 → (par k = -1 ∧ ∀ b, b < 8 → bt (kin k) b = decide (b = k)) ∨ (∃ j, j < k ∧ par k = nI j ∧ ∀ b, b < 8 → bt (kin k) b = (decide (b = k) || bt (kin j) b))
def ca_AO (k : Nat) (a : Int32) : Prop := ((k = 2 ∨ k = 4) → ∃ c, c < 8 ∧ a = nI c) ∧ (k = 9 → ∃ c, 1 ≤ c ∧ c ≤ 5 ∧ a = nI c)
def ca_CL (cl : Nat → Int32) : Prop := ∀ m, m < 16 → ∃ c, c < 8 ∧ cl m = nI c
def ca_ME (me : Nat → Int32) (d : Nat) : Prop := ∀ j, j < d → ∃ m, m < 16 ∧ me j = nI m
theorem ca_bitd {x : Int32} {t : Nat} (ht : t < 32) : decide (((x >>> (nI t &&& 31)) &&& 1) = 1) = bt x t := by
  rw [Bool.eq_iff_iff, decide_eq_true_eq]; exact ca_bit ht
theorem ca_and2 {post : Int32 → Prop} (x y : Bool) (hp : post (ca_b (x && y))) : (ca_b x = 0 → post 0) ∧ (¬ ca_b x = 0 → ((ca_b y = 0 → post 0) ∧ (¬ ca_b y = 0 → post 1))) := by
  cases x
  · exact br_t rfl hp
  · exact br_f ca_n1 (ca_same y hp)
theorem ca_or2 {post : Int32 → Prop} (x y : Bool) (hp : post (ca_b (x || y))) : (ca_b x = 0 → ((ca_b y = 0 → post 0) ∧ (¬ ca_b y = 0 → post 1))) ∧ (¬ ca_b x = 0 → post 1) := by
  cases x
  · exact br_t rfl (ca_same y hp)
  · exact br_f ca_n1 hp
section
variable {fT fH fP fD fG tp : Int32} {par cl nm mk me dk da ln tm cn ks ar li tr pt : Nat → Int32} {kin : Nat → Int32}
theorem ca_ytakes {post : Int32 → Prop} {j : Nat} (hj : j ≤ 13) (h : post (nI (ca_tk j))) : wpY_takes post (fD, fT, fH, fP, fG, tp, par, cl, nm, mk, me, dk, da, ln, tm, cn, ks, ar, li, tr, pt) (nI j) := by
  refine pk_le 6 j (fun h6 => ?_) (fun h6 => ?_)
  · refine pk_eq j 8 (fun e => ?_) (fun n8 => ?_)
    · rw [ca_tk2 (by omega)] at h; exact h
    · refine pk_eq j 11 (fun e => ?_) (fun n11 => ?_)
      · rw [ca_tk2 (by omega)] at h; exact h
      · refine pk_eq j 12 (fun e => ?_) (fun n12 => ?_)
        · rw [ca_tk2 (by omega)] at h; exact h
        · rw [ca_tk1 h6 (by omega)] at h; exact h
  · rw [ca_tk0 h6] at h; exact h
theorem ca_yund (FK : ca_FK par kin) {a : Nat} (ha : a < 8) {post : Int32 → Prop} : ∀ c, c < 8 → ∀ n, c + 2 ≤ n → post (ca_b (bt (kin c) a)) → wY_isUnder_2 post (nI a) fD fT fH fP fG tp par cl nm mk me dk da ln tm cn ks ar li tr pt n (nI c) := by
  intro c
  induction c using Nat.strongRecOn with
  | ind c ih =>
    intro hc n hn hp
    obtain ⟨n, rfl⟩ : ∃ k, n = k + 1 := ⟨n - 1, by omega⟩
    refine br_f (nI_pos (by omega)) (pk_eq c a (fun e => ?_) (fun ne => And.intro (vp_in_nI hc (by decide)) (nm_r (e' := par c) (by rw [nI_clamp (by omega)]) ?_)))
    · subst e
      have z : bt (kin c) c = true := by rcases FK c hc with ⟨_, h⟩ | ⟨j, _, _, h⟩ <;> rw [h c hc] <;> simp
      rw [z] at hp
      exact br_t rfl hp
    · rcases FK c hc with ⟨e, h⟩ | ⟨j, hj, e, h⟩
      · have z : bt (kin c) a = false := by rw [h a ha]; exact decide_eq_false (fun w => ne w.symm)
        rw [z] at hp
        rw [e]
        obtain ⟨n, rfl⟩ : ∃ k, n = k + 1 := ⟨n - 1, by omega⟩
        exact br_t (by decide) (br_f (ca_neg (by omega)) hp)
      · have z : bt (kin c) a = bt (kin j) a := by rw [h a ha, decide_eq_false (fun w => ne w.symm), Bool.false_or]
        rw [z] at hp
        rw [e]
        exact ih j hj (by omega) n (by omega) hp
theorem ca_yunder (FK : ca_FK par kin) {a c : Nat} (ha : a < 8) (hc : c < 8) {post : Int32 → Prop} (hp : post (ca_b (bt (kin c) a))) : wpY_isUnder post (fD, fT, fH, fP, fG, tp, par, cl, nm, mk, me, dk, da, ln, tm, cn, ks, ar, li, tr, pt) (nI c) (nI a) :=
  Exists.intro (c + 2) (ca_yund FK ha c hc (c + 2) (Nat.le_refl _) hp)
theorem ca_ysimple (FK : ca_FK par kin) (hcl : ca_CL cl) {k : Nat} {a : Int32} {i : Nat} (hk : k < 6) (hi : i < 20) (hm : ca_ME me (i + 1)) (ha : ca_AO k a) {post : Int32 → Prop} (hp : post (ca_b (ca_sm kin cl nm mk me k a i))) : wpY_simple post (fD, fT, fH, fP, fG, tp, par, cl, nm, mk, me, dk, da, ln, tm, cn, ks, ar, li, tr, pt) (nI k) a (nI i) := by
  obtain ⟨m, hm16, em⟩ := hm i (Nat.lt_succ_self _)
  have cm : (me i).toNatClampNeg = m := by rw [em, nI_clamp (by omega)]
  have vm : vp_in (me i) 16 := by rw [em]; exact vp_in_nI hm16 (by decide)
  refine And.intro (vp_in_nI hi (by decide)) (nm_r (e' := me i) (by rw [nI_clamp (by omega)]) ?_)
  refine br_f (nI_pos (by omega)) ?_
  match k, hk, ha, hp with
  | 0, _, _, hp => exact br_f (by decide) (br_t rfl ⟨vm, ca_dc hp⟩)
  | 1, _, _, hp => exact br_f (by decide) (br_f (by decide) (br_t rfl ⟨vm, ca_dc hp⟩))
  | 2, _, ha, hp =>
    obtain ⟨b, hb, rfl⟩ := ha.1 (Or.inl rfl)
    obtain ⟨c, hc, ec⟩ := hcl m hm16
    have e1 : cl (me i).toNatClampNeg = nI c := by rw [cm, ec]
    have e2 : ca_sm kin cl nm mk me 2 (nI b) i = bt (kin c) b := by
      show decide (((kin (cl (me i).toNatClampNeg).toNatClampNeg >>> (nI b &&& 31)) &&& 1) = 1) = _
      rw [e1, nI_clamp (by omega)]
      exact ca_bitd (by omega)
    rw [e2] at hp
    refine br_f (by decide) (br_f (by decide) (br_f (by decide) (br_t rfl (And.intro vm ?_))))
    rw [e1]
    exact ca_yunder FK hb hc ⟨ca_bn _, hp⟩
  | 3, _, _, hp => exact br_f (by decide) (br_f (by decide) (br_f (by decide) (br_f (by decide) (br_t rfl ⟨vm, ca_dc hp⟩))))
  | 4, _, ha, hp =>
    obtain ⟨b, hb, rfl⟩ := ha.1 (Or.inr rfl)
    refine br_f (by decide) (br_f (by decide) (br_f (by decide) (br_f (by decide) (br_f (by decide) (br_t rfl ?_)))))
    rcases Nat.eq_zero_or_pos i with z | z
    · subst z
      exact br_t (by decide) hp
    · obtain ⟨m', hm', em'⟩ := hm (i - 1) (by omega)
      obtain ⟨c, hc, ec⟩ := hcl m' hm'
      have e1 : cl (me (i - 1)).toNatClampNeg = nI c := by rw [em', nI_clamp (by omega), ec]
      have e2 : ca_sm kin cl nm mk me 4 (nI b) i = bt (kin c) b := by
        show (!decide (i = 0) && decide (((kin (cl (me (i - 1)).toNatClampNeg).toNatClampNeg >>> (nI b &&& 31)) &&& 1) = 1)) = _
        rw [e1, nI_clamp (by omega), ca_bitd (by omega), decide_eq_false (by omega)]
        rfl
      rw [e2] at hp
      refine br_f (nI_nle z (by omega)) ?_
      rw [ca_pm z, nI_clamp (by omega), e1]
      exact And.intro (vp_in_nI (by omega) (by decide)) (And.intro (by rw [em']; exact vp_in_nI hm' (by decide)) (ca_yunder FK hb hc (ca_same _ hp)))
  | 5, _, _, hp => exact br_t (by decide) (ca_dr hp)
theorem ca_yof {f m : Nat} {row : Nat → Bool} {post : Int32 → Prop} (hf : f < 16) (hm : m ≤ 20) (hr : ∀ j, j < m → tr (20 * f + j) = ca_b (row j)) (hp : post (nI (ca_cnt row m))) : ∀ d j, j + d = m → ∀ n, d < n → wY_often_5 post (nI f) (nI m - 1) fD fT fH fP fG tp par cl nm mk me dk da ln tm cn ks ar li tr pt n (nI (ca_cnt row j)) (nI j) := by
  intro d
  induction d with
  | zero =>
    intro j hj n hn
    obtain ⟨n, rfl⟩ : ∃ k, n = k + 1 := ⟨n - 1, by omega⟩
    have : j = m := by omega
    subst this
    exact br_t ((ca_m1lt (by omega) (by omega)).mpr (Nat.le_refl _)) hp
  | succ d ih =>
    intro j hj n hn
    obtain ⟨n, rfl⟩ : ∃ k, n = k + 1 := ⟨n - 1, by omega⟩
    have ei : ((20 : Int32) * nI f + nI j) = nI (20 * f + j) := ca_i20 f j
    have ec : tr ((20 : Int32) * nI f + nI j).toNatClampNeg = ca_b (row j) := by rw [ei, nI_clamp (by omega), hr j (by omega)]
    refine br_f (fun z => ?_) (And.intro (by rw [ei]; exact vp_in_nI (by omega) (by decide)) ?_)
    · have := (ca_m1lt (by omega) (by omega)).mp z; omega
    · rw [ec]
      refine ca_br (row j) (fun z => nm_r (nI_1 j) ?_) (fun z => nm_r (e' := nI (ca_cnt row j + 1)) (nI_1 _) (nm_r (nI_1 j) ?_))
      · have := ih (j + 1) (by omega) n (by omega)
        rw [ca_cnt_f z] at this; exact this
      · have := ih (j + 1) (by omega) n (by omega)
        rw [ca_cnt_t z] at this; exact this
theorem ca_yoften {f m : Nat} {row : Nat → Bool} {post : Int32 → Prop} (hf : f < 16) (hm : m ≤ 20) (hr : ∀ j, j < m → tr (20 * f + j) = ca_b (row j)) (hp : post (nI (ca_cnt row m))) : wpY_often post (fD, fT, fH, fP, fG, tp, par, cl, nm, mk, me, dk, da, ln, tm, cn, ks, ar, li, tr, pt) (nI f) (nI m - 1) :=
  Exists.intro (m + 1) (ca_yof hf hm hr hp m 0 (Nat.zero_add m) (m + 1) (Nat.lt_succ_self m))
theorem ca_ysi {f g : Nat} {rf rg : Nat → Bool} {post : Int32 → Prop} (hf : f < 16) (hg : g < 16) : ∀ m, m ≤ 20 → (∀ j, j < m → tr (20 * f + j) = ca_b (rf j)) → (∀ j, j < m → tr (20 * g + j) = ca_b (rg j)) → ∀ n, m < n → post (ca_b (ca_sin rf rg m)) → wY_since_3 post (nI f) (nI g) fD fT fH fP fG tp par cl nm mk me dk da ln tm cn ks ar li tr pt n (nI m - 1) := by
  intro m
  induction m with
  | zero =>
    intro _ _ _ n hn hp
    obtain ⟨n, rfl⟩ : ∃ k, n = k + 1 := ⟨n - 1, by omega⟩
    exact br_t (by decide) hp
  | succ m ih =>
    intro hm hrf hrg n hn hp
    obtain ⟨n, rfl⟩ : ∃ k, n = k + 1 := ⟨n - 1, by omega⟩
    have ef : tr ((20 : Int32) * nI f + nI m).toNatClampNeg = ca_b (rf m) := by rw [ca_i20, nI_clamp (by omega), hrf m (by omega)]
    have eg : tr ((20 : Int32) * nI g + nI m).toNatClampNeg = ca_b (rg m) := by rw [ca_i20, nI_clamp (by omega), hrg m (by omega)]
    have hp' : post (ca_b (rg m || (rf m && ca_sin rf rg m))) := hp
    rw [nI_pred]
    refine br_f (nI_pos (by omega)) (And.intro (by rw [ca_i20]; exact vp_in_nI (by omega) (by decide)) ?_)
    rw [eg]
    refine ca_br (rg m) (fun zg => And.intro (by rw [ca_i20]; exact vp_in_nI (by omega) (by decide)) ?_) (fun zg => ?_)
    · rw [ef]
      rw [zg, Bool.false_or] at hp'
      refine ca_br (rf m) (fun zf => ?_) (fun zf => nm_r (ca_am m) ?_)
      · rw [zf] at hp'; exact hp'
      · rw [zf, Bool.true_and] at hp'
        exact ih (by omega) (fun j hj => hrf j (by omega)) (fun j hj => hrg j (by omega)) n (by omega) hp'
    · rw [zg] at hp'; exact hp'
theorem ca_yjoined {k f g i : Nat} {a : Int32} {rf rg : Nat → Bool} {post : Int32 → Prop} (h6 : 6 ≤ k) (hk : k ≤ 13) (hf : f < 16) (hg : g < 16) (hi : i < 20) (hrf : ∀ j, j ≤ i → tr (20 * f + j) = ca_b (rf j)) (hrg : ∀ j, j ≤ i → tr (20 * g + j) = ca_b (rg j)) (hp : post (ca_b (ca_jn k a rf rg i))) : wpY_joined post (fD, fT, fH, fP, fG, tp, par, cl, nm, mk, me, dk, da, ln, tm, cn, ks, ar, li, tr, pt) (nI k) a (nI f) (nI g) (nI i) := by
  have ef : tr ((20 : Int32) * nI f + nI i).toNatClampNeg = ca_b (rf i) := by rw [ca_i20, nI_clamp (by omega), hrf i (by omega)]
  have eg : tr ((20 : Int32) * nI g + nI i).toNatClampNeg = ca_b (rg i) := by rw [ca_i20, nI_clamp (by omega), hrg i (by omega)]
  have OF : ∀ q : Int32 → Prop, q (nI (ca_cnt rf (i + 1))) → wpY_often q (fD, fT, fH, fP, fG, tp, par, cl, nm, mk, me, dk, da, ln, tm, cn, ks, ar, li, tr, pt) (nI f) (nI i) := by
    intro q hq
    rw [← nI_pred i]
    exact ca_yoften hf (by omega) (fun j hj => hrf j (by omega)) hq
  refine And.intro (by rw [ca_i20]; exact vp_in_nI (by omega) (by decide)) (nm_r ef (And.intro (by rw [ca_i20]; exact vp_in_nI (by omega) (by decide)) (nm_r eg ?_)))
  refine br_f (nI_nlt (b := 6) h6 (by omega)) ?_
  rcases (by omega : k = 6 ∨ k = 7 ∨ k = 8 ∨ k = 9 ∨ k = 10 ∨ k = 11 ∨ k = 12 ∨ k = 13) with rfl | rfl | rfl | rfl | rfl | rfl | rfl | rfl
  · exact br_f (by decide) (br_t rfl (OF _ (ca_dr hp)))
  · exact br_f (by decide) (br_f (by decide) (br_t rfl (ca_yoften (m := i) hf (by omega) (fun j hj => hrf j (by omega)) (ca_dr hp))))
  · refine br_f (by decide) (br_f (by decide) (br_f (by decide) (br_t rfl ?_)))
    refine Exists.intro (i + 2) ?_
    rw [← nI_pred i]
    exact ca_ysi hf hg (i + 1) (by omega) (fun j hj => hrf j (by omega)) (fun j hj => hrg j (by omega)) (i + 2) (by omega) ⟨ca_bn _, hp⟩
  · exact br_f (by decide) (br_f (by decide) (br_f (by decide) (br_f (by decide) (br_t rfl (OF _ (ca_dr hp))))))
  · exact br_f (by decide) (br_f (by decide) (br_f (by decide) (br_f (by decide) (br_f (by decide) (br_t rfl (ca_not _ hp))))))
  · exact br_f (by decide) (br_f (by decide) (br_f (by decide) (br_f (by decide) (br_f (by decide) (br_f (by decide) (br_t rfl (ca_and2 _ _ hp)))))))
  · exact br_f (by decide) (br_f (by decide) (br_f (by decide) (br_f (by decide) (br_f (by decide) (br_f (by decide) (br_f (by decide) (br_t rfl (ca_or2 _ _ hp))))))))
  · refine br_t (by decide) ?_
    have hp' : post (ca_b (rf i && decide (nI (ca_cnt rf (i + 1)) = 1))) := hp
    refine ca_br (rf i) (fun z => ?_) (fun z => ?_)
    · rw [z] at hp'; exact hp'
    · rw [z, Bool.true_and] at hp'
      exact OF _ (ca_dc hp')
end
end
section
/-! the reference works a formula out -/
def ca_nf (K : Nat → Int32) : Nat → Nat := fun t => (K t).toNatClampNeg
def ca_sh (K : Nat → Int32) (p : Nat) : Nat → Int32 := fun t => K (16 * p + t)
def ca_WF (K A S : Nat → Int32) (n : Nat) : Prop := ∀ t, t < n → (∃ j, j ≤ 13 ∧ K t = nI j) ∧ ca_AO (ca_nf K t) (A t) ∧ S t = nI (ca_nf S t) ∧ ca_W1 (ca_nf K) (ca_nf S) t
def ca_VF (kin cl nm mk me K A S : Nat → Int32) : Nat → Nat → Bool := ca_V (fun t i => ca_sm kin cl nm mk me (ca_nf K t) (A t) i) (ca_nf K) A (ca_nf S)
def ca_RW (V : Nat → Nat → Bool) (tr : Nat → Int32) (t i : Nat) : Prop := ∀ s j, s < t → j ≤ i → tr (20 * s + j) = ca_b (V s j)
section
variable {fT fH fP fD fG tp : Int32} {par cl nm mk me dk da ln tm cn ks ar li tr pt : Nat → Int32} {kin sp : Nat → Int32}
theorem ca_y113 {p i t q f g k : Nat} {a : Int32} {V : Nat → Nat → Bool} (hi : i < 20) (ht : t < 16) (hq : q < 8)
    (hs : ∀ tr : Nat → Int32, ca_RW V tr t i → ∀ j, j ≤ i → ∀ post : Int32 → Prop, post (ca_b (V t j)) → wpY_takes (fun r => ((r = 0 → wpY_simple post (fD, fT, fH, fP, fG, (nI q), par, cl, nm, mk, me, dk, da, ln, tm, cn, ks, ar, li, tr, pt) (nI k) a (nI j)) ∧ (¬ r = 0 → wpY_joined post (fD, fT, fH, fP, fG, (nI q), par, cl, nm, mk, me, dk, da, ln, tm, cn, ks, ar, li, tr, pt) (nI k) a (nI f) (nI g) (nI j)))) (fD, fT, fH, fP, fG, (nI q), par, cl, nm, mk, me, dk, da, ln, tm, cn, ks, ar, li, tr, pt) (nI k)) :
    ∀ d j, j + d = i + 1 → ∀ tr : Nat → Int32, ca_RW V tr t i → (∀ j', j' < j → tr (20 * t + j') = ca_b (V t j')) →
    ∃ tr' : Nat → Int32, ca_RW V tr' (t + 1) i ∧ ∀ (post : Int32 → SY → Prop) (J7 : Int32 → Int32 → (Nat → Int32) → (Nat → Int32) → (Nat → Int32) → (Nat → Int32) → (Nat → Int32) → (Nat → Int32) → (Nat → Int32) → (Nat → Int32) → (Nat → Int32) → (Nat → Int32) → (Nat → Int32) → (Nat → Int32) → (Nat → Int32) → (Nat → Int32) → (Nat → Int32) → Prop), J7 (nI (t + 1)) (nI (q + 1)) par cl nm mk me dk da ln tm cn ks ar li tr' (upd pt q (nI t)) → ∀ n, d < n → wY_isTrue_113 post J7 (nI p) (nI i) (nI t) (nI k) a (nI f) (nI g) fD fT fH fP fG (nI q) n (nI j) par cl nm mk me dk da ln tm cn ks ar li tr pt := by
  intro d
  induction d with
  | zero =>
    intro j hj tr h1 h2
    refine ⟨tr, fun s j' hs' hj' => ?_, fun post J7 hJ n hn => ?_⟩
    · by_cases e : s = t
      · rw [e]; exact h2 j' (by omega)
      · exact h1 s j' (by omega) hj'
    · obtain ⟨n, rfl⟩ : ∃ k, n = k + 1 := ⟨n - 1, by omega⟩
      refine br_t (nI_lt (by omega) (by omega)) (And.intro (vp_in_nI hq (by decide)) (nm_r (e' := upd pt q (nI t)) (by rw [nI_clamp (by omega)]) (nm_r (nI_1 q) (nm_r (nI_1 t) hJ))))
  | succ d ih =>
    intro j hj tr h1 h2
    obtain ⟨tr', R, W⟩ := ih (j + 1) (by omega) (upd tr (20 * t + j) (ca_b (V t j))) (fun s j' hs' hj' => by rw [pk_un (by omega)]; exact h1 s j' hs' hj') (fun j' hj' => by
      by_cases e : j' = j
      · rw [e, pk_us]
      · rw [pk_un (by omega)]; exact h2 j' (by omega))
    refine ⟨tr', R, fun post J7 hJ n hn => ?_⟩
    obtain ⟨n, rfl⟩ : ∃ k, n = k + 1 := ⟨n - 1, by omega⟩
    refine br_f (nI_nlt (by omega) (by omega)) (hs tr h1 j (by omega) _ ?_)
    refine And.intro (by rw [ca_i20]; exact vp_in_nI (by omega) (by decide)) (nm_r (e' := upd tr (20 * t + j) (ca_b (V t j))) (by rw [ca_i20, nI_clamp (by omega), ca_bv]) (nm_r (nI_1 j) ?_))
    exact W post J7 hJ n (by omega)
theorem ca_ystep (FK : ca_FK par kin) (hcl : ca_CL cl) {K A S : Nat → Int32} {n t i f g : Nat} (hn : n ≤ 16) (ht : t < n) (hi : i < 20) (hm : ca_ME me (i + 1)) (W : ca_WF K A S n)
    (hfg : 6 ≤ ca_nf K t → f = ca_op (ca_nf K) (ca_nf S) t ∧ g = t - 1) (hr : ca_RW (ca_VF kin cl nm mk me K A S) tr t i) {j : Nat} (hj : j ≤ i) {post : Int32 → Prop} (hp : post (ca_b (ca_VF kin cl nm mk me K A S t j))) :
    wpY_takes (fun r => ((r = 0 → wpY_simple post (fD, fT, fH, fP, fG, tp, par, cl, nm, mk, me, dk, da, ln, tm, cn, ks, ar, li, tr, pt) (nI (ca_nf K t)) (A t) (nI j)) ∧ (¬ r = 0 → wpY_joined post (fD, fT, fH, fP, fG, tp, par, cl, nm, mk, me, dk, da, ln, tm, cn, ks, ar, li, tr, pt) (nI (ca_nf K t)) (A t) (nI f) (nI g) (nI j)))) (fD, fT, fH, fP, fG, tp, par, cl, nm, mk, me, dk, da, ln, tm, cn, ks, ar, li, tr, pt) (nI (ca_nf K t)) := by
  obtain ⟨⟨k, hk, ek⟩, ha, es, w⟩ := W t ht
  have ek' : ca_nf K t = k := by show (K t).toNatClampNeg = k; rw [ek, nI_clamp (by omega)]
  refine ca_ytakes (by omega) ?_
  rcases Nat.lt_or_ge (ca_nf K t) 6 with l | l
  · have hp' : post (ca_b (ca_sm kin cl nm mk me (ca_nf K t) (A t) j)) := by
      have := ca_V0 (sm := fun t i => ca_sm kin cl nm mk me (ca_nf K t) (A t) i) (kd := ca_nf K) (A := A) (sp := ca_nf S) (t := t) l j
      rw [← this]; exact hp
    rw [ca_tk0 l]
    exact br_t rfl (ca_ysimple FK hcl l (by omega) (fun j' hj' => hm j' (by omega)) ha hp')
  · obtain ⟨rfl, rfl⟩ := hfg l
    have p := ca_tk_pos l
    have q := ca_tk_le (ca_nf K t)
    have t1 : 1 ≤ t := ca_hg_zero (kd := ca_nf K) (by have := w.1; omega)
    have o1 := ca_op_lt (kd := ca_nf K) (sp := ca_nf S) t1
    have hp' : post (ca_b (ca_jn (ca_nf K t) (A t) (ca_VF kin cl nm mk me K A S (ca_op (ca_nf K) (ca_nf S) t)) (ca_VF kin cl nm mk me K A S (t - 1)) j)) := by
      have := ca_V1 (sm := fun t i => ca_sm kin cl nm mk me (ca_nf K t) (A t) i) (kd := ca_nf K) (A := A) (sp := ca_nf S) (t := t) l t1 j
      show post (ca_b (ca_jn (ca_nf K t) (A t) (ca_V _ (ca_nf K) A (ca_nf S) (ca_op (ca_nf K) (ca_nf S) t)) (ca_V _ (ca_nf K) A (ca_nf S) (t - 1)) j))
      rw [← this]; exact hp
    refine br_f (nI_ne0 p (by omega)) ?_
    exact ca_yjoined l (by omega) (by omega) (by omega) (by omega) (fun j' hj' => hr _ j' o1 (by omega)) (fun j' hj' => hr _ j' (by omega) (by omega)) hp'
theorem ca_y7 (FK : ca_FK par kin) (hcl : ca_CL cl) {p n i : Nat} (hp6 : p < 6) (hn : n ≤ 16) (h1 : 1 ≤ n) (hi : i < 20) (hm : ca_ME me (i + 1)) (hl : ln p = nI n) (W : ca_WF (ca_sh ks p) (ca_sh ar p) (ca_sh sp p) n) :
    ∀ d t, t + d = n → ∀ tr pt : Nat → Int32, ca_RW (ca_VF kin cl nm mk me (ca_sh ks p) (ca_sh ar p) (ca_sh sp p)) tr t i → (∀ j, j < ca_hg (ca_nf (ca_sh ks p)) t → pt j = nI (ca_ps (ca_nf (ca_sh ks p)) t j)) →
    ∃ (tp' : Int32) (tr' pt' : Nat → Int32), ∀ post : Int32 → SY → Prop, post (ca_b (ca_VF kin cl nm mk me (ca_sh ks p) (ca_sh ar p) (ca_sh sp p) (n - 1) i)) (fD, fT, fH, fP, fG, tp', par, cl, nm, mk, me, dk, da, ln, tm, cn, ks, ar, li, tr', pt') → ∀ m, d < m → wY_isTrue_7 post (nI p) (nI i) fD fT fH fP fG m (nI t) (nI (ca_hg (ca_nf (ca_sh ks p)) t)) par cl nm mk me dk da ln tm cn ks ar li tr pt := by
  have el : ln (nI p).toNatClampNeg = nI n := by rw [nI_clamp (by omega), hl]
  intro d
  induction d with
  | zero =>
    intro t ht tr pt hr hs
    have e : t = n := by omega
    subst e
    refine ⟨nI (ca_hg (ca_nf (ca_sh ks p)) t), tr, pt, fun post hp m hm' => ?_⟩
    obtain ⟨m, rfl⟩ : ∃ k, m = k + 1 := ⟨m - 1, by omega⟩
    have ix : ((20 : Int32) * ln (nI p).toNatClampNeg - 20) + nI i = nI (20 * (t - 1) + i) := by
      rw [el]
      show (nI 20 * nI t - nI 20) + nI i = _
      rw [pk_mul, pk_sub (by omega), nI_add]
      congr 1
      omega
    have ex : tr (((20 : Int32) * ln (nI p).toNatClampNeg - 20) + nI i).toNatClampNeg = ca_b (ca_VF kin cl nm mk me (ca_sh ks p) (ca_sh ar p) (ca_sh sp p) (t - 1) i) := by
      rw [ix, nI_clamp (by omega)]
      exact hr (t - 1) i (by omega) (by omega)
    refine And.intro (vp_in_nI hp6 (by decide)) (br_t (by rw [el]; exact nI_le (Nat.le_refl _) (by omega)) (And.intro (vp_in_nI hp6 (by decide)) (And.intro (by rw [ix]; exact vp_in_nI (by omega) (by decide)) ?_)))
    rw [ex]
    exact And.intro (ca_bn _) hp
  | succ d ih =>
    intro t ht tr pt hr hs
    obtain ⟨⟨k, hk, ek⟩, ha, es, w⟩ := W t (by omega)
    have ek' : ca_nf (ca_sh ks p) t = k := by show (ca_sh ks p t).toNatClampNeg = k; rw [ek, nI_clamp (by omega)]
    have C := ca_chain (kd := ca_nf (ca_sh ks p)) (sp := ca_nf (ca_sh sp p)) t (fun s hs' => (W s (by omega)).2.2.2)
    obtain ⟨w1, w2, w3, w4⟩ := w
    have tk2 := ca_tk_le (ca_nf (ca_sh ks p) t)
    have eh : ca_hg (ca_nf (ca_sh ks p)) (t + 1) = ca_hg (ca_nf (ca_sh ks p)) t - ca_tk (ca_nf (ca_sh ks p) t) + 1 := rfl
    -- the two operands
    obtain ⟨f, g, hfg, hfg0, hgg⟩ : ∃ f g, (6 ≤ ca_nf (ca_sh ks p) t → f = ca_op (ca_nf (ca_sh ks p)) (ca_nf (ca_sh sp p)) t ∧ g = t - 1) ∧ (ca_nf (ca_sh ks p) t < 6 → f = 0 ∧ g = 0) ∧ (ca_tk (ca_nf (ca_sh ks p) t) = 1 → g = f) := by
      rcases Nat.lt_or_ge (ca_nf (ca_sh ks p) t) 6 with l | l
      · exact ⟨0, 0, fun h => absurd h (by omega), fun _ => ⟨rfl, rfl⟩, fun _ => rfl⟩
      · refine ⟨_, _, fun _ => ⟨rfl, rfl⟩, fun h => absurd h (by omega), fun h => ?_⟩
        unfold ca_op
        rw [if_neg (by omega)]
    obtain ⟨tr1, R1, W1⟩ := ca_y113 (p := p) (i := i) (t := t) (q := ca_hg (ca_nf (ca_sh ks p)) t - ca_tk (ca_nf (ca_sh ks p) t)) (f := f) (g := g) (k := ca_nf (ca_sh ks p) t) (a := ca_sh ar p t) (fD := fD) (fT := fT) (fH := fH) (fP := fP) (fG := fG) (par := par) (cl := cl) (nm := nm) (mk := mk) (me := me) (dk := dk) (da := da) (ln := ln) (tm := tm) (cn := cn) (ks := ks) (ar := ar) (li := li) (pt := pt)
      (V := ca_VF kin cl nm mk me (ca_sh ks p) (ca_sh ar p) (ca_sh sp p)) hi (by omega) (by omega)
      (fun tr hr' j hj post hp => ca_ystep FK hcl hn (by omega) hi hm W hfg hr' hj hp) (i + 1) 0 (by omega) tr hr (fun j' h => absurd h (Nat.not_lt_zero j'))
    obtain ⟨tp', tr', pt', W2⟩ := ih (t + 1) (by omega) tr1 (upd pt (ca_hg (ca_nf (ca_sh ks p)) t - ca_tk (ca_nf (ca_sh ks p) t)) (nI t)) R1 (fun j hj => by
      by_cases e : j = ca_hg (ca_nf (ca_sh ks p)) t - ca_tk (ca_nf (ca_sh ks p) t)
      · rw [ca_ps_s e, e, pk_us]
      · rw [ca_ps_n e, pk_un e]; exact hs j (by omega))
    refine ⟨tp', tr', pt', fun post hp m hm' => ?_⟩
    obtain ⟨m, rfl⟩ : ∃ k, m = k + 1 := ⟨m - 1, by omega⟩
    have ei : ((16 : Int32) * nI p + nI t) = nI (16 * p + t) := ca_i16 p t
    have eK : ks ((16 : Int32) * nI p + nI t).toNatClampNeg = nI (ca_nf (ca_sh ks p) t) := by
      rw [ei, nI_clamp (by omega), ek']; exact ek
    have eA : ar ((16 : Int32) * nI p + nI t).toNatClampNeg = ca_sh ar p t := by
      rw [ei, nI_clamp (by omega)]; rfl
    have vi : vp_in ((16 : Int32) * nI p + nI t) 96 := by rw [ei]; exact vp_in_nI (by omega) (by decide)
    refine And.intro (vp_in_nI hp6 (by decide)) (br_f (by rw [el]; exact nI_ge (by omega) (by omega)) (And.intro vi (nm_r eK (And.intro vi (nm_r eA ?_)))))
    refine ca_ytakes (by omega) (nm_r (pk_sub w1) (ca_ytakes (by omega) ?_))
    have J : wY_isTrue_7 post (nI p) (nI i) fD fT fH fP fG m (nI (t + 1)) (nI (ca_hg (ca_nf (ca_sh ks p)) t - ca_tk (ca_nf (ca_sh ks p) t) + 1)) par cl nm mk me dk da ln tm cn ks ar li tr1 (upd pt (ca_hg (ca_nf (ca_sh ks p)) t - ca_tk (ca_nf (ca_sh ks p) t)) (nI t)) := W2 post hp m (by omega)
    have G := W1 post _ J (i + 2) (by omega)
    rcases Nat.lt_or_ge (ca_nf (ca_sh ks p) t) 6 with l | l
    · obtain ⟨rfl, rfl⟩ := hfg0 l
      rw [ca_tk0 l] at G ⊢
      refine br_t (nI_le (b := 0) (Nat.le_refl _) (by decide)) (ca_ytakes (by omega) ?_)
      rw [ca_tk0 l]
      exact br_t (by decide) (Exists.intro (i + 2) G)
    · have p1 := ca_tk_pos l
      obtain ⟨ef, eg⟩ := hfg l
      have o1 := ca_op1 C w1 l
      have t1 : 1 ≤ t := ca_hg_zero (kd := ca_nf (ca_sh ks p)) (by omega)
      have eP : pt (nI (ca_hg (ca_nf (ca_sh ks p)) t - ca_tk (ca_nf (ca_sh ks p) t))).toNatClampNeg = nI f := by
        rw [nI_clamp (by omega), hs _ (by omega), o1, ef]
      refine br_f (nI_nle p1 (by omega)) (And.intro (vp_in_nI (by omega) (by decide)) ?_)
      rw [eP]
      refine ca_ytakes (by omega) ?_
      refine pk_le (ca_tk (ca_nf (ca_sh ks p) t)) 1 (fun h => ?_) (fun h => ?_) rfl rfl (by omega) (by omega)
      · have e : g = f := hgg (by omega)
        subst e
        exact Exists.intro (i + 2) G
      · have e2 : ca_tk (ca_nf (ca_sh ks p) t) = 2 := by omega
        have eQ : pt (nI (ca_hg (ca_nf (ca_sh ks p)) t - ca_tk (ca_nf (ca_sh ks p) t)) + 1).toNatClampNeg = nI g := by
          rw [nI_1, nI_clamp (by omega), hs _ (by omega), eg]
          have d1 := C.1 t1
          rw [show ca_hg (ca_nf (ca_sh ks p)) t - ca_tk (ca_nf (ca_sh ks p) t) + 1 = ca_hg (ca_nf (ca_sh ks p)) t - 1 by omega, d1]
        exact And.intro (by rw [nI_1]; exact vp_in_nI (by omega) (by decide)) (nm_r eQ (Exists.intro (i + 2) G))
theorem ca_ytrue (FK : ca_FK par kin) (hcl : ca_CL cl) {p n i : Nat} (hp6 : p < 6) (hn : n ≤ 16) (h1 : 1 ≤ n) (hi : i < 20) (hm : ca_ME me (i + 1)) (hl : ln p = nI n) (W : ca_WF (ca_sh ks p) (ca_sh ar p) (ca_sh sp p) n) :
    ∃ (tp' : Int32) (tr' pt' : Nat → Int32), ∀ post : Int32 → SY → Prop, post (ca_b (ca_VF kin cl nm mk me (ca_sh ks p) (ca_sh ar p) (ca_sh sp p) (n - 1) i)) (fD, fT, fH, fP, fG, tp', par, cl, nm, mk, me, dk, da, ln, tm, cn, ks, ar, li, tr', pt') → wpY_isTrue post (fD, fT, fH, fP, fG, tp, par, cl, nm, mk, me, dk, da, ln, tm, cn, ks, ar, li, tr, pt) (nI p) (nI i) := by
  obtain ⟨tp', tr', pt', H⟩ := ca_y7 (fD := fD) (fT := fT) (fH := fH) (fP := fP) (fG := fG) (par := par) (nm := nm) (mk := mk) (dk := dk) (da := da) (tm := tm) (cn := cn) (li := li) FK hcl hp6 hn h1 hi hm hl W n 0 (Nat.zero_add n) tr pt (fun s j h => absurd h (Nat.not_lt_zero s)) (fun j h => absurd h (Nat.not_lt_zero j))
  exact ⟨tp', tr', pt', fun post hp => Exists.intro (n + 1) (H post hp (n + 1) (Nat.lt_succ_self n))⟩
end
end
section
/-! the component's private methods -/
theorem ca_xbit' {post : Int32 → Prop} {x y : Int32} {t : Nat} {b : Bool} (ht : t < 32) (hy : y = nI t) (hb : bt x t = b) (h : post (ca_b b)) : wpX_bit post x y := by
  rw [hy]
  exact ca_xbit ht (by rw [hb]; exact h)
theorem ca_pos {c : Nat} (hc : c < 2 ^ 31) : decide (¬ nI c ≤ 0) = decide (0 < c) := by
  apply decide_eq_decide.mpr
  rw [← nI_0, nI_leI hc (by omega)]
  omega
theorem ca_flow {f : Nat → Bool} {i : Nat} : decide (0 < ca_cnt f (i + 1)) = (f i || decide (0 < ca_cnt f i)) := by
  cases h : f i
  · rw [ca_cnt_f h, Bool.false_or]
  · rw [ca_cnt_t h, Bool.true_or]; exact decide_eq_true (by omega)
theorem ca_only {f : Nat → Bool} {i : Nat} (hi : i ≤ 1000) : (f i && decide (nI (ca_cnt f (i + 1)) = 1)) = (f i && !decide (0 < ca_cnt f i)) := by
  have l := ca_cnt_le f i
  cases h : f i
  · rfl
  · rw [ca_cnt_t h, Bool.true_and, Bool.true_and]
    by_cases z : 0 < ca_cnt f i
    · rw [decide_eq_true z]
      apply decide_eq_false
      show ¬ nI _ = nI 1
      rw [nI_eq (by omega) (by omega)]
      omega
    · rw [decide_eq_false z]
      apply decide_eq_true
      rw [show ca_cnt f i = 0 by omega]
      rfl
theorem ca_an2 {post : Int32 → Prop} (x y : Bool) (hp : post (ca_b (x && !y))) : (ca_b x = 0 → post 0) ∧ (¬ ca_b x = 0 → ((ca_b y = 0 → post 1) ∧ (¬ ca_b y = 0 → post 0))) := by
  cases x
  · exact br_t rfl hp
  · exact br_f ca_n1 (ca_not y hp)
theorem ca_xtaken {post : Int32 → Prop} {j : Nat} (hj : j ≤ 13) (h : post (nI (ca_tk j))) : wpX_taken post (nI j) := by
  refine pk_lt 5 j (fun h6 => ?_) (fun h6 => ?_)
  · refine pk_eq j 8 (fun e => ?_) (fun n8 => ?_)
    · rw [ca_tk2 (by omega)] at h; exact h
    · refine pk_eq j 11 (fun e => ?_) (fun n11 => ?_)
      · rw [ca_tk2 (by omega)] at h; exact h
      · refine pk_eq j 12 (fun e => ?_) (fun n12 => ?_)
        · rw [ca_tk2 (by omega)] at h; exact h
        · rw [ca_tk1 h6 (by omega)] at h; exact h
  · rw [ca_tk0 (by omega)] at h; exact h
section
variable {fT fH fP fD fG : Int32} {par kin cl nm mk dk da ds ln tm ks ar sp cn me ho ev li : Nat → Int32} {ofn : Nat → Int64}
theorem ca_xplain (hcl : ca_CL cl) {k : Nat} {a : Int32} {i : Nat} (hk : k < 6) (hi : i < 20) (hm : ca_ME me (i + 1)) {post : Int32 → Prop} (hp : post (ca_b (ca_sm kin cl nm mk me k a i))) : wpX_plainHolds post (fT, fH, fP, fD, fG, par, kin, cl, nm, mk, dk, da, ds, ln, tm, ks, ar, sp, cn, me, ho, ev, ofn, li) (nI k) a (nI i) := by
  obtain ⟨m, hm16, em⟩ := hm i (Nat.lt_succ_self _)
  have cm : (me i).toNatClampNeg = m := by rw [em, nI_clamp (by omega)]
  have vm : vp_in (me i) 16 := by rw [em]; exact vp_in_nI hm16 (by decide)
  refine And.intro (vp_in_nI (by omega) (by decide)) (nm_r (e' := me i) (by rw [nI_clamp (by omega)]) ?_)
  refine br_f (nI_pos (by omega)) ?_
  match k, hk, hp with
  | 0, _, hp => exact br_f (by decide) (br_t rfl ⟨vm, ca_dc hp⟩)
  | 1, _, hp => exact br_f (by decide) (br_f (by decide) (br_t rfl ⟨vm, ca_dc hp⟩))
  | 2, _, hp =>
    obtain ⟨c, hc, ec⟩ := hcl m hm16
    have v8 : vp_in (cl (me i).toNatClampNeg) 8 := by rw [cm, ec]; exact vp_in_nI hc (by decide)
    exact br_f (by decide) (br_f (by decide) (br_f (by decide) (br_t rfl ⟨vm, v8, ca_dc hp⟩)))
  | 3, _, hp => exact br_f (by decide) (br_f (by decide) (br_f (by decide) (br_f (by decide) (br_t rfl ⟨vm, ca_dc hp⟩))))
  | 4, _, hp =>
    refine br_f (by decide) (br_f (by decide) (br_f (by decide) (br_f (by decide) (br_f (by decide) (br_t rfl ?_)))))
    rcases Nat.eq_zero_or_pos i with z | z
    · subst z
      exact br_t (by decide) hp
    · obtain ⟨m', hm', em'⟩ := hm (i - 1) (by omega)
      obtain ⟨c, hc, ec⟩ := hcl m' hm'
      have hp' : post (ca_b (!decide (i = 0) && decide (((kin (cl (me (i - 1)).toNatClampNeg).toNatClampNeg >>> (a &&& 31)) &&& 1) = 1))) := hp
      rw [decide_eq_false (show ¬ i = 0 by omega), Bool.not_false, Bool.true_and] at hp'
      refine br_f (nI_nle z (by omega)) ?_
      rw [ca_pm z, nI_clamp (by omega)]
      exact ⟨vp_in_nI (by omega) (by decide), by rw [em']; exact vp_in_nI hm' (by decide), by rw [em', nI_clamp (by omega), ec]; exact vp_in_nI hc (by decide), ca_dc hp'⟩
  | 5, _, hp => exact br_t (by decide) (ca_dr hp)
theorem ca_xjoined {p t k i σ : Nat} {a now held bef : Int32} {f g : Nat → Bool} {post : Int32 → Prop} (hp6 : p < 6) (ht : t < 16) (t1 : 1 ≤ t) (hi : i < 20) (h6 : 6 ≤ k) (hk : k ≤ 13) (h9 : k ≠ 9)
    (eK : ks (16 * p + t) = nI k) (eS : sp (16 * p + (t - 1)) = nI σ) (hu : ca_tk k = 1 → f = g) (hb : ca_tk k = 2 → σ ≤ t - 1 ∧ bt now (t - 1 - σ) = f i) (h8 : k = 8 → bt held t = ca_sin f g i)
    (hg : bt now (t - 1) = g i) (he : bt bef (t - 1) = decide (0 < ca_cnt g i)) (hp : post (ca_b (ca_jn k a f g i))) : wpX_joined post (fT, fH, fP, fD, fG, par, kin, cl, nm, mk, dk, da, ds, ln, tm, ks, ar, sp, cn, me, ho, ev, ofn, li) (nI (16 * p + t)) (nI t) now held bef := by
  have lc := ca_cnt_le g i
  have lc1 := ca_cnt_le g (i + 1)
  have ex : nI (16 * p + t) - 1 = nI (16 * p + (t - 1)) := by rw [ca_pm (by omega)]; congr 1; omega
  unfold wpX_joined
  refine ca_xbit' (by omega) (ca_pm t1) hg ?_
  refine ca_xbit' (by omega) (ca_pm t1) he ?_
  refine And.intro (by rw [ex]; exact vp_in_nI (by omega) (by decide)) (nm_r (e' := nI (t - 1) - nI σ) (by rw [ex, nI_clamp (by omega), eS, ca_pm t1]) (And.intro (vp_in_nI (by omega) (by decide)) (nm_r (e' := nI k) (by rw [nI_clamp (by omega), eK]) ?_)))
  refine br_f (nI_nlt (b := 6) h6 (by omega)) ?_
  rcases (by omega : k = 6 ∨ k = 7 ∨ k = 8 ∨ k = 10 ∨ k = 11 ∨ k = 12 ∨ k = 13) with rfl | rfl | rfl | rfl | rfl | rfl | rfl
  · obtain rfl := hu rfl
    have hp' : post (ca_b (decide (¬ nI (ca_cnt f (i + 1)) ≤ 0))) := hp
    rw [ca_pos (by omega), ca_flow] at hp'
    exact br_f (by decide) (br_t rfl (ca_or2 _ _ hp'))
  · obtain rfl := hu rfl
    have hp' : post (ca_b (decide (¬ nI (ca_cnt f i) ≤ 0))) := hp
    rw [ca_pos (by omega)] at hp'
    exact br_f (by decide) (br_f (by decide) (br_t rfl ⟨ca_bn _, hp'⟩))
  · obtain ⟨b1, b2⟩ := hb rfl
    have hp' : post (ca_b (g i || (f i && ca_sin f g i))) := hp
    refine br_f (by decide) (br_f (by decide) (br_f (by decide) (br_t rfl ?_)))
    refine ca_br (g i) (fun z => ?_) (fun z => ?_)
    · rw [z, Bool.false_or] at hp'
      refine ca_xbit' (by omega) (pk_sub b1) b2 ?_
      refine ca_br (f i) (fun w => ?_) (fun w => ?_)
      · rw [w] at hp'; exact hp'
      · rw [w, Bool.true_and] at hp'
        exact ca_xbit' (by omega) rfl (h8 rfl) (ca_same _ hp')
    · rw [z] at hp'; exact hp'
  · obtain rfl := hu rfl
    exact br_f (by decide) (br_f (by decide) (br_f (by decide) (br_f (by decide) (br_f (by decide) (br_t rfl (ca_not _ hp))))))
  · obtain ⟨b1, b2⟩ := hb rfl
    have hp' : post (ca_b (f i && g i)) := hp
    refine br_f (by decide) (br_f (by decide) (br_f (by decide) (br_f (by decide) (br_f (by decide) (br_f (by decide) (br_t rfl ?_))))))
    refine ca_br (g i) (fun z => ?_) (fun z => ?_)
    · rw [z, Bool.and_false] at hp'; exact hp'
    · rw [z, Bool.and_true] at hp'
      exact ca_xbit' (by omega) (pk_sub b1) b2 (ca_same _ hp')
  · obtain ⟨b1, b2⟩ := hb rfl
    have hp' : post (ca_b (f i || g i)) := hp
    refine br_f (by decide) (br_f (by decide) (br_f (by decide) (br_f (by decide) (br_f (by decide) (br_f (by decide) (br_f (by decide) (br_t rfl ?_)))))))
    refine ca_br (g i) (fun z => ?_) (fun z => ?_)
    · rw [z, Bool.or_false] at hp'
      exact ca_xbit' (by omega) (pk_sub b1) b2 (ca_same _ hp')
    · rw [z, Bool.or_true] at hp'; exact hp'
  · obtain rfl := hu rfl
    have hp' : post (ca_b (f i && decide (nI (ca_cnt f (i + 1)) = 1))) := hp
    rw [ca_only (by omega)] at hp'
    exact br_t (by decide) (ca_an2 _ _ hp')
theorem ca_x181 {post : SX → Prop} {J70 : Int32 → Int64 → Int32 → Prop} {x1 x2 now x4 x5 x6 : Int32} {m t : Nat} (b : Bool) (hm : m < 2 ^ 64) (ht : t < 16) (h : J70 (if b then now ||| ((1 : Int32) <<< (nI t &&& 31)) else now) (lN (if b then ca_up m t else m)) (nI (t + 1))) : wX_workOut_181 post J70 x1 x2 now x4 x5 x6 (lN m) (nI t) (ca_b b) fT fH fP fD fG par kin cl nm mk dk da ds ln tm ks ar sp cn me ho ev ofn li := by
  refine ca_br b (fun z => ?_) (fun z => ?_)
  · subst z
    exact nm_r (nI_1 t) h
  · subst z
    exact nm_e (ca_xup hm ht (nm_r (nI_1 t) h))
end
def ca_Eq (kin cl nm mk me K A S : Nat → Int32) (V : Nat → Nat → Bool) (n : Nat) : Prop := ∀ t, t < n → (ca_nf K t < 6 → ∀ i, V t i = ca_sm kin cl nm mk me (ca_nf K t) (A t) i) ∧ (6 ≤ ca_nf K t → 1 ≤ t ∧ ∀ i, V t i = ca_jn (ca_nf K t) (A t) (V (ca_op (ca_nf K) (ca_nf S) t)) (V (t - 1)) i)
theorem ca_VF_eq {kin cl nm mk me K A S : Nat → Int32} {n : Nat} (W : ca_WF K A S n) : ca_Eq kin cl nm mk me K A S (ca_VF kin cl nm mk me K A S) n := by
  intro t ht
  refine ⟨fun l i => ca_V0 l i, fun l => ?_⟩
  have p := ca_tk_pos l
  have w := (W t ht).2.2.2.1
  have t1 : 1 ≤ t := ca_hg_zero (kd := ca_nf K) (by omega)
  exact ⟨t1, fun i => ca_V1 l t1 i⟩
theorem ca_nbs {f : Nat → Bool} {i x : Nat} (h : x = min 5 (ca_cnt f i)) : (if f i then (if x < 5 then x + 1 else x) else x) = min 5 (ca_cnt f (i + 1)) := by
  cases e : f i
  · rw [ca_cnt_f e]; exact h
  · rw [ca_cnt_t e, if_pos rfl]
    split <;> omega
section
variable {fT fH fP fD fG : Int32} {par kin cl nm mk dk da ds ln tm ks ar sp cn me ho ev li : Nat → Int32} {ofn : Nat → Int64}
theorem ca_x70 (hcl : ca_CL cl) {p n i : Nat} {V : Nat → Nat → Bool} (hp6 : p < 6) (hn : n ≤ 16) (h1 : 1 ≤ n) (hi : i < 20) (hm : ca_ME me (i + 1)) (hl : ln p = nI n) (W : ca_WF (ca_sh ks p) (ca_sh ar p) (ca_sh sp p) n) (E : ca_Eq kin cl nm mk me (ca_sh ks p) (ca_sh ar p) (ca_sh sp p) V n) {h0 e0 : Int32} {o0 : Int64} (PV : ca_PV V n i h0 e0 o0) :
    ∀ d t, t + d = n → ∀ (now : Int32) (m : Nat), m < 2 ^ 64 → (∀ s, s < 16 → bt now s = (decide (s < t) && V s i)) → (∀ s, s < n → ca_nb m s = min 5 (ca_cnt (V s) (if s < t then i + 1 else i))) →
    ∃ (h e : Int32) (o : Int64), ca_PV V n (i + 1) h e o ∧ ∀ post : SX → Prop, post (fT, fH, fP, fD, fG, par, kin, cl, nm, mk, dk, da, ds, ln, tm, ks, ar, sp, cn, me, (upd ho (21 * p + i) h), (upd ev (21 * p + i) e), (vp_updL ofn (21 * p + i) o), li) → ∀ w, d < w → wX_workOut_70 post (nI p) (nI i) (nI (21 * p + i)) h0 e0 fT fH fP fD fG par kin cl nm mk dk da ds ln tm ks ar sp cn me ho ev ofn li w now (lN m) (nI t) := by
  have el : ln (nI p).toNatClampNeg = nI n := by rw [nI_clamp (by omega), hl]
  obtain ⟨P1, P2, _⟩ := PV
  intro d
  induction d with
  | zero =>
    intro t ht now m hm64 hnow hnb
    have e : t = n := by omega
    subst e
    have hnow' : ∀ s, s < t → bt now s = V s i := fun s hs => by rw [hnow s (by omega), decide_eq_true hs, Bool.true_and]
    refine ⟨now, e0 ||| now, lN m, ⟨fun s hs => hnow' s hs, fun s hs => ?_, m, hm64, rfl, fun s hs => ?_⟩, fun post hp w hw => ?_⟩
    · rw [b_or, P2 s hs, hnow' s hs, ca_flow, Bool.or_comm]
    · rw [hnb s hs, if_pos hs]
    · obtain ⟨w, rfl⟩ : ∃ k, w = k + 1 := ⟨w - 1, by omega⟩
      have vx : vp_in (nI (21 * p + i)) 126 := vp_in_nI (by omega) (by decide)
      have cx : (nI (21 * p + i)).toNatClampNeg = 21 * p + i := nI_clamp (by omega)
      exact And.intro (vp_in_nI hp6 (by decide)) (br_t (by rw [el]; exact nI_le (Nat.le_refl _) (by omega)) (And.intro vx (nm_r (by rw [cx]) (And.intro vx (nm_r (by rw [cx]) (And.intro vx (nm_r (by rw [cx]) hp)))))))
  | succ d ih =>
    intro t ht now m hm64 hnow hnb
    have hnow' : ∀ s, s < t → bt now s = V s i := fun s hs => by rw [hnow s (by omega), decide_eq_true hs, Bool.true_and]
    obtain ⟨⟨k, hk, ek⟩, ha, es, w⟩ := W t (by omega)
    obtain ⟨E0, E1⟩ := E t (by omega)
    have ek' : ca_nf (ca_sh ks p) t = k := by show (ca_sh ks p t).toNatClampNeg = k; rw [ek, nI_clamp (by omega)]
    have C := ca_chain (kd := ca_nf (ca_sh ks p)) (sp := ca_nf (ca_sh sp p)) t (fun s hs' => (W s (by omega)).2.2.2)
    obtain ⟨w1, w2, w3, w4⟩ := w
    rw [ek'] at ha E0 E1
    obtain ⟨h, e, o, P', Wk⟩ := ih (t + 1) (by omega) (if V t i then now ||| ((1 : Int32) <<< (nI t &&& 31)) else now) (if V t i then ca_up m t else m) (by split; exact ca_up_in hm64 (by omega); exact hm64)
      (fun s hs => by
        by_cases e : s = t
        · subst e
          rw [decide_eq_true (Nat.lt_succ_self s), Bool.true_and]
          cases eb : V s i
          · show bt now s = false
            rw [hnow s hs, decide_eq_false (Nat.lt_irrefl s), Bool.false_and]
          · show bt (now ||| ((1 : Int32) <<< (nI s &&& 31))) s = true
            rw [ca_or1 (by omega) (by omega), decide_eq_true rfl, Bool.or_true]
        · have e' : decide (s < t + 1) = decide (s < t) := decide_eq_decide.mpr (by omega)
          rw [e']
          cases eb : V t i
          · exact hnow s hs
          · show bt (now ||| ((1 : Int32) <<< (nI t &&& 31))) s = _
            rw [ca_or1 (by omega) (by omega), decide_eq_false e, Bool.or_false]; exact hnow s hs)
      (fun s hs => by
        by_cases e : s = t
        · subst e
          have q := hnb s hs
          rw [if_neg (Nat.lt_irrefl s)] at q
          rw [if_pos (Nat.lt_succ_self s), ← ca_nbs q]
          cases eb : V s i
          · rfl
          · show ca_nb (ca_up m s) s = _
            rw [ca_up_nb, if_pos rfl]
            rfl
        · have q := hnb s hs
          have e' : (if s < t + 1 then i + 1 else i) = (if s < t then i + 1 else i) := by
            by_cases l : s < t
            · rw [if_pos l, if_pos (by omega)]
            · rw [if_neg l, if_neg (by omega)]
          rw [e', ← q]
          cases eb : V t i
          · rfl
          · show ca_nb (ca_up m t) s = _
            rw [ca_up_nb, if_neg e])
    refine ⟨h, e, o, P', fun post hp w hw => ?_⟩
    obtain ⟨w, rfl⟩ : ∃ k, w = k + 1 := ⟨w - 1, by omega⟩
    have K := ca_x181 (post := post) (J70 := wX_workOut_70 post (nI p) (nI i) (nI (21 * p + i)) h0 e0 fT fH fP fD fG par kin cl nm mk dk da ds ln tm ks ar sp cn me ho ev ofn li w) (x1 := nI p) (x2 := nI i) (now := now) (x4 := nI (21 * p + i)) (x5 := h0) (x6 := e0) (fT := fT) (fH := fH) (fP := fP) (fD := fD) (fG := fG) (par := par) (kin := kin) (cl := cl) (nm := nm) (mk := mk) (dk := dk) (da := da) (ds := ds) (ln := ln) (tm := tm) (ks := ks) (ar := ar) (sp := sp) (cn := cn) (me := me) (ho := ho) (ev := ev) (li := li) (ofn := ofn) (V t i) hm64 (show t < 16 by omega) (Wk post hp w (by omega))
    have vi : vp_in (nI (16 * p + t)) 96 := vp_in_nI (by omega) (by decide)
    have cx : (nI (16 * p + t)).toNatClampNeg = 16 * p + t := nI_clamp (by omega)
    have eK : ks (16 * p + t) = nI k := ek
    refine And.intro (vp_in_nI hp6 (by decide)) (br_f (by rw [el]; exact nI_ge (by omega) (by omega)) (nm_r (ca_i16 p t) (And.intro vi ?_)))
    rw [cx, eK]
    rcases Nat.lt_or_ge k 6 with l | l
    · rw [E0 l i] at K
      exact br_f (nI_nlt (a := 5) (by omega) (by omega)) (And.intro vi (And.intro vi (ca_xplain hcl l hi hm K)))
    · obtain ⟨t1, E1⟩ := E1 l
      rw [E1 i] at K
      refine br_t (nI_lt (a := 5) (by omega) (by omega)) (And.intro vi ?_)
      by_cases k9 : k = 9
      · subst k9
        obtain ⟨c, c1, c5, ec⟩ := ha.2 rfl
        have ec' : ar (16 * p + t) = nI c := ec
        have eo : ca_op (ca_nf (ca_sh ks p)) (ca_nf (ca_sh sp p)) t = t - 1 := by
          unfold ca_op
          rw [ek']
          rfl
        have lc := ca_cnt_le (V (t - 1)) (i + 1)
        have q := hnb (t - 1) (by omega)
        rw [if_pos (by omega)] at q
        have K' : wX_workOut_181 post (wX_workOut_70 post (nI p) (nI i) (nI (21 * p + i)) h0 e0 fT fH fP fD fG par kin cl nm mk dk da ds ln tm ks ar sp cn me ho ev ofn li w) (nI p) (nI i) now (nI (21 * p + i)) h0 e0 (lN m) (nI t) (ca_b (decide (¬ nI (ca_cnt (V (t - 1)) (i + 1)) < nI c))) fT fH fP fD fG par kin cl nm mk dk da ds ln tm ks ar sp cn me ho ev ofn li := by
          have K2 : wX_workOut_181 post (wX_workOut_70 post (nI p) (nI i) (nI (21 * p + i)) h0 e0 fT fH fP fD fG par kin cl nm mk dk da ds ln tm ks ar sp cn me ho ev ofn li w) (nI p) (nI i) now (nI (21 * p + i)) h0 e0 (lN m) (nI t) (ca_b (decide (¬ nI (ca_cnt (V (ca_op (ca_nf (ca_sh ks p)) (ca_nf (ca_sh sp p)) t)) (i + 1)) < ca_sh ar p t))) fT fH fP fD fG par kin cl nm mk dk da ds ln tm ks ar sp cn me ho ev ofn li := K
          rw [eo, ec] at K2
          exact K2
        refine br_t rfl ?_
        rw [ca_pm t1]
        refine ca_xctd hm64 (by omega) (And.intro vi ?_)
        rw [q, ec']
        refine pk_lt (min 5 (ca_cnt (V (t - 1)) (i + 1))) c (fun z => ?_) (fun z => ?_) rfl rfl (by omega) (by omega)
        · rw [decide_eq_false (fun y => y ((nI_ltI (by omega) (by omega)).mpr (by omega)))] at K'
          exact K'
        · have z' : ¬ nI (ca_cnt (V (t - 1)) (i + 1)) < nI c := fun y => by have := (nI_ltI (by omega) (by omega)).mp y; omega
          rw [decide_eq_true z'] at K'
          exact K'
      · refine br_f (fun z => k9 ((nI_eq (b := 9) (by omega) (by omega)).mp z)) ?_
        have es1 := (W (t - 1) (by omega)).2.2.1
        refine ca_xjoined hp6 (by omega) t1 hi l hk k9 eK es1 (f := V (ca_op (ca_nf (ca_sh ks p)) (ca_nf (ca_sh sp p)) t)) (g := V (t - 1)) (fun z => ?_) (fun z => ?_) (fun z => ?_) (hnow' _ (by omega)) (P2 _ (by omega)) K
        · unfold ca_op
          rw [ek', if_neg (by omega)]
        · have o1 := ca_op_lt (kd := ca_nf (ca_sh ks p)) (sp := ca_nf (ca_sh sp p)) t1
          rw [← ek'] at z l
          have d3 := C.2.2 (ca_hg (ca_nf (ca_sh ks p)) t - 2) (by omega)
          rw [show ca_hg (ca_nf (ca_sh ks p)) t - 2 + 1 = ca_hg (ca_nf (ca_sh ks p)) t - 1 by omega, C.1 t1] at d3
          refine ⟨by omega, ?_⟩
          rw [hnow' _ (by omega)]
          congr 1
          unfold ca_op
          rw [if_pos z]
        · subst z
          rw [P1 t (by omega)]
          cases i with
          | zero => rfl
          | succ i' => exact E1 i'
theorem ca_xwork (hcl : ca_CL cl) {p n i : Nat} {V : Nat → Nat → Bool} (hp6 : p < 6) (hn : n ≤ 16) (h1 : 1 ≤ n) (hi : i < 20) (hm : ca_ME me (i + 1)) (hl : ln p = nI n) (W : ca_WF (ca_sh ks p) (ca_sh ar p) (ca_sh sp p) n) (E : ca_Eq kin cl nm mk me (ca_sh ks p) (ca_sh ar p) (ca_sh sp p) V n) (hpr : 1 ≤ i → ca_PV V n i (ho (21 * p + (i - 1))) (ev (21 * p + (i - 1))) (ofn (21 * p + (i - 1)))) :
    ∃ (h e : Int32) (o : Int64), ca_PV V n (i + 1) h e o ∧ ∀ post : SX → Prop, post (fT, fH, fP, fD, fG, par, kin, cl, nm, mk, dk, da, ds, ln, tm, ks, ar, sp, cn, me, (upd ho (21 * p + i) h), (upd ev (21 * p + i) e), (vp_updL ofn (21 * p + i) o), li) → wpX_workOut post (fT, fH, fP, fD, fG, par, kin, cl, nm, mk, dk, da, ds, ln, tm, ks, ar, sp, cn, me, ho, ev, ofn, li) (nI p) (nI i) := by
  have go : ∀ (h0 e0 : Int32) (o0 : Int64), ca_PV V n i h0 e0 o0 → ∃ (h e : Int32) (o : Int64), ca_PV V n (i + 1) h e o ∧ ∀ post : SX → Prop, post (fT, fH, fP, fD, fG, par, kin, cl, nm, mk, dk, da, ds, ln, tm, ks, ar, sp, cn, me, (upd ho (21 * p + i) h), (upd ev (21 * p + i) e), (vp_updL ofn (21 * p + i) o), li) → wX_workOut_70 post (nI p) (nI i) (nI (21 * p + i)) h0 e0 fT fH fP fD fG par kin cl nm mk dk da ds ln tm ks ar sp cn me ho ev ofn li (n + 1) 0 o0 0 := by
    intro h0 e0 o0 PV
    obtain ⟨_, _, m, hm64, eo, hq⟩ := id PV
    obtain ⟨h, e, o, P', H⟩ := ca_x70 (fT := fT) (fH := fH) (fP := fP) (fD := fD) (fG := fG) (par := par) (kin := kin) (cl := cl) (nm := nm) (mk := mk) (dk := dk) (da := da) (ds := ds) (ln := ln) (tm := tm) (ks := ks) (ar := ar) (sp := sp) (cn := cn) (me := me) (ho := ho) (ev := ev) (li := li) (ofn := ofn) hcl hp6 hn h1 hi hm hl W E PV n 0 (Nat.zero_add n) 0 m hm64 (fun s _ => by rw [b_0, decide_eq_false (Nat.not_lt_zero s), Bool.false_and]) (fun s hs => by rw [hq s hs, if_neg (Nat.not_lt_zero s)])
    rw [eo]
    exact ⟨h, e, o, P', fun post hp => H post hp (n + 1) (Nat.lt_succ_self n)⟩
  rcases Nat.eq_zero_or_pos i with z | z
  · subst z
    obtain ⟨h, e, o, P', H⟩ := go 0 0 0 (ca_PV0 V n)
    refine ⟨h, e, o, P', fun post hp => nm_r (ca_i21 p 0) (br_t (by decide) (br_t (by decide) (br_t (by decide) (Exists.intro (n + 1) (H post hp)))))⟩
  · obtain ⟨h, e, o, P', H⟩ := go _ _ _ (hpr z)
    refine ⟨h, e, o, P', fun post hp => nm_r (ca_i21 p i) (br_f (nI_nle z (by omega)) ?_)⟩
    have ex : nI (21 * p + i) - 1 = nI (21 * p + (i - 1)) := by rw [ca_pm (by omega)]; congr 1; omega
    have vx : vp_in (nI (21 * p + i) - 1) 126 := by rw [ex]; exact vp_in_nI (by omega) (by decide)
    have cx : (nI (21 * p + i) - 1).toNatClampNeg = 21 * p + (i - 1) := by rw [ex]; exact nI_clamp (by omega)
    have H1 := H post hp
    rw [← cx] at H1
    exact And.intro vx (br_f (nI_nle z (by omega)) (And.intro vx (br_f (nI_nle z (by omega)) (And.intro vx (nm_e (Exists.intro (n + 1) H1))))))
theorem ca_xwhole {p i n : Nat} {b : Bool} {post : Int32 → Prop} (hp6 : p < 6) (hi : i < 20) (h1 : 1 ≤ n) (hn : n ≤ 16) (hl : ln p = nI n) (hb : bt (ho (21 * p + i)) (n - 1) = b) (hp : post (ca_b b)) : wpX_wholeHolds post (fT, fH, fP, fD, fG, par, kin, cl, nm, mk, dk, da, ds, ln, tm, ks, ar, sp, cn, me, ho, ev, ofn, li) (nI p) (nI i) := by
  have ex : (21 : Int32) * nI p + nI i = nI (21 * p + i) := ca_i21 p i
  refine And.intro (by rw [ex]; exact vp_in_nI (by omega) (by decide)) (And.intro (vp_in_nI hp6 (by decide)) ?_)
  refine ca_xbit' (t := n - 1) (b := b) (by omega) (by rw [nI_clamp (by omega), hl, ca_pm h1]) (by rw [ex, nI_clamp (by omega), hb]) (And.intro (ca_bn _) hp)
theorem ca_xgive {p G : Nat} {post : SX → Prop} (hp6 : p < 6) (hG : G < 2 ^ 30) (h : post (fT, fH, fP, fD, (nI (G + 1)), par, kin, cl, nm, mk, dk, da, ds, ln, tm, ks, ar, sp, (upd cn p (cn p + 1)), me, ho, ev, ofn, (upd li (G % 64) (nI p)))) : wpX_give post (fT, fH, fP, fD, (nI G), par, kin, cl, nm, mk, dk, da, ds, ln, tm, ks, ar, sp, cn, me, ho, ev, ofn, li) (nI p) := by
  have er : nI G - nI G / 64 * 64 = nI (G % 64) := pk_rem (d := 64) (by omega) (by omega) (by omega)
  have l : G % 64 < 64 := Nat.mod_lt _ (by decide)
  have vp : vp_in (nI p) 6 := vp_in_nI hp6 (by decide)
  exact And.intro (by decide) (And.intro (by rw [er]; exact vp_in_nI l (by decide)) (nm_r (by rw [er, nI_clamp (by omega)]) (nm_r (nI_1 G) (And.intro vp (And.intro vp (nm_r (by rw [nI_clamp (by omega)]) h))))))
end
end
section
/-! the relation -/
def ca_PW (ln ks ar sp : Nat → Int32) (P : Nat) : Prop := ∀ p, p < P → ln p = nI (ca_nf ln p) ∧ 1 ≤ ca_nf ln p ∧ ca_nf ln p ≤ 16 ∧ ca_WF (ca_sh ks p) (ca_sh ar p) (ca_sh sp p) (ca_nf ln p)
def ca_VP (kin cl nm mk me ks ar sp : Nat → Int32) (p : Nat) : Nat → Nat → Bool := ca_VF kin cl nm mk me (ca_sh ks p) (ca_sh ar p) (ca_sh sp p)
def ca_CP (kin cl nm mk me ln ks ar sp ho ev : Nat → Int32) (ofn : Nat → Int64) (p i : Nat) : Prop := ca_PV (ca_VP kin cl nm mk me ks ar sp p) (ca_nf ln p) (i + 1) (ho (21 * p + i)) (ev (21 * p + i)) (ofn (21 * p + i))
def ca_CW (kin cl nm mk me ln ks ar sp ho ev : Nat → Int32) (ofn : Nat → Int64) (P D : Nat) : Prop := ∀ p i, p < P → i < D → ca_CP kin cl nm mk me ln ks ar sp ho ev ofn p i
def ca_St (k T H P D G : Nat) (par kin cl nm mk dk da ds ln ks ar sp me ho ev : Nat → Int32) (ofn : Nat → Int64) : Prop :=
  T ≤ 16 ∧ H ≤ 6 ∧ P ≤ 6 ∧ D ≤ 20 ∧ G ≤ 2 * k ∧ ca_FK par kin ∧ ca_CL cl ∧ ca_ME me D ∧ ca_hg (ca_nf dk) T = H ∧ ca_WF dk da ds T ∧ ca_PW ln ks ar sp P ∧ ca_CW kin cl nm mk me ln ks ar sp ho ev ofn P D
def i_Rel (k : Nat) (u : SX) (v : SY) : Prop := ∃ (T H P D G : Nat) (par kin cl nm mk dk da ds ln tm ks ar sp cn me ho ev li : Nat → Int32) (ofn : Nat → Int64) (tp : Int32) (tr pt : Nat → Int32), u = ((nI T), (nI H), (nI P), (nI D), (nI G), par, kin, cl, nm, mk, dk, da, ds, ln, tm, ks, ar, sp, cn, me, ho, ev, ofn, li) ∧ v = ((nI D), (nI T), (nI H), (nI P), (nI G), tp, par, cl, nm, mk, me, dk, da, ln, tm, cn, ks, ar, li, tr, pt) ∧ ca_St k T H P D G par kin cl nm mk dk da ds ln ks ar sp me ho ev ofn
theorem ca_el {k : Nat} {u : SX} {v : SY} {Q : SX → SY → Prop} (h : ∀ (T H P D G : Nat) (par kin cl nm mk dk da ds ln tm ks ar sp cn me ho ev li : Nat → Int32) (ofn : Nat → Int64) (tp : Int32) (tr pt : Nat → Int32), ca_St k T H P D G par kin cl nm mk dk da ds ln ks ar sp me ho ev ofn → Q ((nI T), (nI H), (nI P), (nI D), (nI G), par, kin, cl, nm, mk, dk, da, ds, ln, tm, ks, ar, sp, cn, me, ho, ev, ofn, li) ((nI D), (nI T), (nI H), (nI P), (nI G), tp, par, cl, nm, mk, me, dk, da, ln, tm, cn, ks, ar, li, tr, pt)) (I : i_Rel k u v) : Q u v :=
  Exists.elim I fun T I => Exists.elim I fun H I => Exists.elim I fun P I => Exists.elim I fun D I => Exists.elim I fun G I => Exists.elim I fun par I => Exists.elim I fun kin I => Exists.elim I fun cl I => Exists.elim I fun nm I => Exists.elim I fun mk I => Exists.elim I fun dk I => Exists.elim I fun da I => Exists.elim I fun ds I => Exists.elim I fun ln I => Exists.elim I fun tm I => Exists.elim I fun ks I => Exists.elim I fun ar I => Exists.elim I fun sp I => Exists.elim I fun cn I => Exists.elim I fun me I => Exists.elim I fun ho I => Exists.elim I fun ev I => Exists.elim I fun li I => Exists.elim I fun ofn I => Exists.elim I fun tp I => Exists.elim I fun tr I => Exists.elim I fun pt I => by rw [I.1, I.2.1]; exact h T H P D G par kin cl nm mk dk da ds ln tm ks ar sp cn me ho ev li ofn tp tr pt I.2.2
section
variable {T H P D G : Nat} {par kin cl nm mk dk da ds ln tm ks ar sp cn me ho ev li : Nat → Int32} {ofn : Nat → Int64} {tp : Int32} {tr pt : Nat → Int32}
theorem ca_mk {k : Nat} (h : ca_St k T H P D G par kin cl nm mk dk da ds ln ks ar sp me ho ev ofn) : i_Rel k ((nI T), (nI H), (nI P), (nI D), (nI G), par, kin, cl, nm, mk, dk, da, ds, ln, tm, ks, ar, sp, cn, me, ho, ev, ofn, li) ((nI D), (nI T), (nI H), (nI P), (nI G), tp, par, cl, nm, mk, me, dk, da, ln, tm, cn, ks, ar, li, tr, pt) :=
  ⟨T, H, P, D, G, par, kin, cl, nm, mk, dk, da, ds, ln, tm, ks, ar, sp, cn, me, ho, ev, li, ofn, tp, tr, pt, rfl, rfl, h⟩
theorem ca_keep {k : Nat} (h : ca_St k T H P D G par kin cl nm mk dk da ds ln ks ar sp me ho ev ofn) : i_Rel (k + 5) ((nI T), (nI H), (nI P), (nI D), (nI G), par, kin, cl, nm, mk, dk, da, ds, ln, tm, ks, ar, sp, cn, me, ho, ev, ofn, li) ((nI D), (nI T), (nI H), (nI P), (nI G), tp, par, cl, nm, mk, me, dk, da, ln, tm, cn, ks, ar, li, tr, pt) := by
  obtain ⟨hT, hH6, hP, hD, hG, h⟩ := h
  exact ca_mk ⟨hT, hH6, hP, hD, by omega, h⟩
end
theorem i_up {k : Nat} {u : SX} {v : SY} (h : i_Rel k u v) : i_Rel (k + 5) u v := ca_el (Q := fun u v => i_Rel (k + 5) u v) (fun T H P D G par kin cl nm mk dk da ds ln tm ks ar sp cn me ho ev li ofn tp tr pt S => ca_keep S) h
theorem ca_VP_c {kin cl nm mk me me' ks ar sp : Nat → Int32} {p i : Nat} (h : ∀ j, j ≤ i → me j = me' j) (s j : Nat) (hj : j ≤ i) : ca_VP kin cl nm mk me ks ar sp p s j = ca_VP kin cl nm mk me' ks ar sp p s j :=
  ca_V_c (i := i) (fun s j hj => ca_sm_c (fun q hq => h q (by omega))) s j hj
theorem ca_CP_me {kin cl nm mk me me' ln ks ar sp ho ev : Nat → Int32} {ofn : Nat → Int64} {p i : Nat} (h : ∀ j, j ≤ i → me j = me' j) (H : ca_CP kin cl nm mk me ln ks ar sp ho ev ofn p i) : ca_CP kin cl nm mk me' ln ks ar sp ho ev ofn p i :=
  ca_PVc (fun s j hj => ca_VP_c h s j (by omega)) H
theorem ca_CP_u {kin cl nm mk me ln ks ar sp ho ev : Nat → Int32} {ofn : Nat → Int64} {p i q : Nat} {h e : Int32} {o : Int64} (ne : 21 * p + i ≠ q) (H : ca_CP kin cl nm mk me ln ks ar sp ho ev ofn p i) : ca_CP kin cl nm mk me ln ks ar sp (upd ho q h) (upd ev q e) (vp_updL ofn q o) p i := by
  unfold ca_CP
  rw [pk_un ne, pk_un ne, pk_uLn ne]
  exact H
theorem ca_CP_s {kin cl nm mk me ln ks ar sp ho ev : Nat → Int32} {ofn : Nat → Int64} {p i : Nat} {h e : Int32} {o : Int64} (H : ca_PV (ca_VP kin cl nm mk me ks ar sp p) (ca_nf ln p) (i + 1) h e o) : ca_CP kin cl nm mk me ln ks ar sp (upd ho (21 * p + i) h) (upd ev (21 * p + i) e) (vp_updL ofn (21 * p + i) o) p i := by
  unfold ca_CP
  rw [pk_us, pk_us, pk_uLs]
  exact H
theorem ca_CW_me {kin cl nm mk me me' ln ks ar sp ho ev : Nat → Int32} {ofn : Nat → Int64} {P D : Nat} (h : ∀ j, j < D → me j = me' j) (H : ca_CW kin cl nm mk me ln ks ar sp ho ev ofn P D) : ca_CW kin cl nm mk me' ln ks ar sp ho ev ofn P D :=
  fun p i hp hi => ca_CP_me (fun j hj => h j (by omega)) (H p i hp hi)
theorem ca_CW_u {kin cl nm mk me ln ks ar sp ho ev : Nat → Int32} {ofn : Nat → Int64} {P D p : Nat} {h e : Int32} {o : Int64} (hD : D ≤ 20) (H : ca_CW kin cl nm mk me ln ks ar sp ho ev ofn P D) : ca_CW kin cl nm mk me ln ks ar sp (upd ho (21 * p + D) h) (upd ev (21 * p + D) e) (vp_updL ofn (21 * p + D) o) P D :=
  fun p' i hp hi => ca_CP_u (by omega) (H p' i hp hi)
theorem ca_ME_u {me : Nat → Int32} {D m : Nat} (hm : m < 16) (H : ca_ME me D) : ca_ME (upd me D (nI m)) (D + 1) := by
  intro j hj
  by_cases e : j = D
  · exact ⟨m, hm, by rw [e, pk_us]⟩
  · rw [pk_un e]; exact H j (by omega)
section
variable {fT fH fP fD fG : Int32} {par kin cl nm mk dk da ds ln tm ks ar sp cn me ho ev li : Nat → Int32} {ofn : Nat → Int64}
theorem ca_xworkP (hcl : ca_CL cl) {P p D : Nat} (hP : P ≤ 6) (hp : p < P) (hD : D < 20) (hm : ca_ME me (D + 1)) (PW : ca_PW ln ks ar sp P) (CW : ca_CW kin cl nm mk me ln ks ar sp ho ev ofn P D) :
    ∃ (h e : Int32) (o : Int64), ca_PV (ca_VP kin cl nm mk me ks ar sp p) (ca_nf ln p) (D + 1) h e o ∧ ∀ post : SX → Prop, post (fT, fH, fP, fD, fG, par, kin, cl, nm, mk, dk, da, ds, ln, tm, ks, ar, sp, cn, me, (upd ho (21 * p + D) h), (upd ev (21 * p + D) e), (vp_updL ofn (21 * p + D) o), li) → wpX_workOut post (fT, fH, fP, fD, fG, par, kin, cl, nm, mk, dk, da, ds, ln, tm, ks, ar, sp, cn, me, ho, ev, ofn, li) (nI p) (nI D) := by
  obtain ⟨el, n1, n16, W⟩ := PW p hp
  refine ca_xwork hcl (V := ca_VP kin cl nm mk me ks ar sp p) (by omega) n16 n1 hD hm el W (ca_VF_eq W) (fun h1 => ?_)
  have := CW p (D - 1) hp (by omega)
  unfold ca_CP at this
  rw [show D - 1 + 1 = D by omega] at this
  exact this
theorem ca_xwholeP {P p i : Nat} {post : Int32 → Prop} (hP : P ≤ 6) (hp : p < P) (hi : i < 20) (PW : ca_PW ln ks ar sp P) (C : ca_CP kin cl nm mk me ln ks ar sp ho ev ofn p i) (hq : post (ca_b (ca_VP kin cl nm mk me ks ar sp p (ca_nf ln p - 1) i))) : wpX_wholeHolds post (fT, fH, fP, fD, fG, par, kin, cl, nm, mk, dk, da, ds, ln, tm, ks, ar, sp, cn, me, ho, ev, ofn, li) (nI p) (nI i) := by
  obtain ⟨el, n1, n16, W⟩ := PW p hp
  exact ca_xwhole (by omega) hi n1 n16 el (C.1 _ (by omega)) hq
theorem ca_xtried (hcl : ca_CL cl) {P p D m : Nat} (hP : P ≤ 6) (hp : p < P) (hD : D < 20) (hm16 : m < 16) (hm : ca_ME me D) (PW : ca_PW ln ks ar sp P) (CW : ca_CW kin cl nm mk me ln ks ar sp ho ev ofn P D) :
    ∃ (h e : Int32) (o : Int64), ∀ post : Int32 → SX → Prop, post (ca_b (ca_VP kin cl nm mk (upd me D (nI m)) ks ar sp p (ca_nf ln p - 1) D)) (fT, fH, fP, (nI D), fG, par, kin, cl, nm, mk, dk, da, ds, ln, tm, ks, ar, sp, cn, (upd me D (nI m)), (upd ho (21 * p + D) h), (upd ev (21 * p + D) e), (vp_updL ofn (21 * p + D) o), li) → wpX_tried post (fT, fH, fP, (nI D), fG, par, kin, cl, nm, mk, dk, da, ds, ln, tm, ks, ar, sp, cn, me, ho, ev, ofn, li) (nI p) (nI m) := by
  have CW' := ca_CW_me (me' := upd me D (nI m)) (fun j hj => (pk_un (by omega)).symm) CW
  obtain ⟨h, e, o, PV, Wk⟩ := ca_xworkP (fT := fT) (fH := fH) (fP := fP) (fD := nI D) (fG := fG) (par := par) (dk := dk) (da := da) (ds := ds) (tm := tm) (cn := cn) (li := li) hcl hP hp hD (ca_ME_u hm16 hm) PW CW'
  refine ⟨h, e, o, fun post hq => ?_⟩
  refine And.intro (vp_in_nI (by omega) (by decide)) (nm_r (e' := upd me D (nI m)) (by rw [nI_clamp (by omega)]) (Wk _ ?_))
  exact ca_xwholeP hP hp hD PW (ca_CP_s PV) (And.intro (ca_bn _) hq)
end
section
variable {fT fH fP fD fG tp : Int32} {par cl nm mk me dk da ln tm cn ks ar li tr pt : Nat → Int32} {kin sp : Nat → Int32}
theorem ca_ytrueP (FK : ca_FK par kin) (hcl : ca_CL cl) {P p i : Nat} (hP : P ≤ 6) (hp : p < P) (hi : i < 20) (hm : ca_ME me (i + 1)) (PW : ca_PW ln ks ar sp P) :
    ∃ (tp' : Int32) (tr' pt' : Nat → Int32), ∀ post : Int32 → SY → Prop, post (ca_b (ca_VP kin cl nm mk me ks ar sp p (ca_nf ln p - 1) i)) (fD, fT, fH, fP, fG, tp', par, cl, nm, mk, me, dk, da, ln, tm, cn, ks, ar, li, tr', pt') → wpY_isTrue post (fD, fT, fH, fP, fG, tp, par, cl, nm, mk, me, dk, da, ln, tm, cn, ks, ar, li, tr, pt) (nI p) (nI i) := by
  obtain ⟨el, n1, n16, W⟩ := PW p hp
  exact ca_ytrue FK hcl (by omega) n16 n1 hi hm el W
theorem ca_ygive (FK : ca_FK par kin) (hcl : ca_CL cl) {P p D G : Nat} (x : Int32) (hP : P ≤ 6) (hp : p < P) (hD : D < 20) (hG : G < 2 ^ 30) (hm : ca_ME me (D + 1)) (PW : ca_PW ln ks ar sp P) :
    ∃ (tp' : Int32) (tr' pt' : Nat → Int32), ∀ post : Int32 → SY → Prop, ((decide (tm p = x) && ca_VP kin cl nm mk me ks ar sp p (ca_nf ln p - 1) D) = false → post 0 ((nI (D + 1)), fT, fH, fP, (nI G), tp', par, cl, nm, mk, me, dk, da, ln, tm, cn, ks, ar, li, tr', pt')) →
    ((decide (tm p = x) && ca_VP kin cl nm mk me ks ar sp p (ca_nf ln p - 1) D) = true → post 1 ((nI (D + 1)), fT, fH, fP, (nI (G + 1)), tp', par, cl, nm, mk, me, dk, da, ln, tm, (upd cn p (cn p + 1)), ks, ar, (upd li (G % 64) (nI p)), tr', pt')) → wpY_giveIf post ((nI (D + 1)), fT, fH, fP, (nI G), tp, par, cl, nm, mk, me, dk, da, ln, tm, cn, ks, ar, li, tr, pt) (nI p) x := by
  have vp : vp_in (nI p) 6 := vp_in_nI (by omega) (by decide)
  have cp : (nI p).toNatClampNeg = p := nI_clamp (by omega)
  by_cases e : tm p = x
  · obtain ⟨tp', tr', pt', H⟩ := ca_ytrueP (fD := nI (D + 1)) (fT := fT) (fH := fH) (fP := fP) (fG := nI G) (tp := tp) (tr := tr) (pt := pt) (dk := dk) (da := da) (tm := tm) (cn := cn) (li := li) (nm := nm) (mk := mk) FK hcl hP hp hD hm PW
    refine ⟨tp', tr', pt', fun post h0 h1 => ?_⟩
    rw [decide_eq_true e, Bool.true_and] at h0 h1
    have er : nI G - nI G / 64 * 64 = nI (G % 64) := pk_rem (d := 64) (by omega) (by omega) (by omega)
    have l : G % 64 < 64 := Nat.mod_lt _ (by decide)
    refine And.intro vp (br_t (by rw [cp]; exact e) ?_)
    rw [nI_pred]
    refine H _ (ca_br _ h0 (fun z => And.intro (by decide) (And.intro (by rw [er]; exact vp_in_nI l (by decide)) (nm_r (by rw [er, nI_clamp (by omega)]) (nm_r (nI_1 G) (And.intro vp (And.intro vp (nm_r (by rw [cp]) (h1 z)))))))))
  · refine ⟨tp, tr, pt, fun post h0 _ => ?_⟩
    rw [decide_eq_false e, Bool.false_and] at h0
    exact And.intro vp (br_f (by rw [cp]; exact e) (h0 rfl))
end
end
section
/-! small methods -/
theorem ca_78 {v : Int32} (h : (8 : Int32) ≤ v) : (7 : Int32) < v := by
  rw [Int32.lt_iff_toInt_lt, show (7 : Int32).toInt = 7 from by decide]
  rw [Int32.le_iff_toInt_le, show (8 : Int32).toInt = 8 from by decide] at h
  omega
theorem ca_1516 {v : Int32} (h : (16 : Int32) ≤ v) : ¬ v ≤ 15 := by
  rw [Int32.le_iff_toInt_le, show (15 : Int32).toInt = 15 from by decide]
  rw [Int32.le_iff_toInt_le, show (16 : Int32).toInt = 16 from by decide] at h
  omega
theorem ca_1516' {v : Int32} (h : (16 : Int32) ≤ v) : (15 : Int32) < v := by
  rw [Int32.lt_iff_toInt_lt, show (15 : Int32).toInt = 15 from by decide]
  rw [Int32.le_iff_toInt_le, show (16 : Int32).toInt = 16 from by decide] at h
  omega
theorem ca_xisM1 {post : Int32 → Prop} {j : Nat} (hj : j < 16) (h : post 1) : wpX_isMethod post (nI j) :=
  br_f (nI_pos (by omega)) (br_f (nI_ge (b := 16) hj (by omega)) h)
theorem ca_xisM0 {post : Int32 → Prop} {v : Int32} (hv : v < 0 ∨ (16 : Int32) ≤ v) (h : post 0) : wpX_isMethod post v := by
  by_cases z : v < 0
  · exact br_t z h
  · exact br_f z (br_t (hv.resolve_left z) h)
theorem ca_CL_u {cl : Nat → Int32} {m c : Nat} (hc : c < 8) (H : ca_CL cl) : ca_CL (upd cl m (nI c)) := by
  intro j hj
  by_cases e : j = m
  · exact ⟨c, hc, by rw [e, pk_us]⟩
  · rw [pk_un e]; exact H j hj
theorem ca_ME0 {me : Nat → Int32} : ca_ME me 0 := fun j h => absurd h (Nat.not_lt_zero j)
theorem ca_CW0 {kin cl nm mk me ln ks ar sp ho ev : Nat → Int32} {ofn : Nat → Int64} {P : Nat} : ca_CW kin cl nm mk me ln ks ar sp ho ev ofn P 0 := fun _ i _ h => absurd h (Nat.not_lt_zero i)
section
variable {fT fH fP fD fG : Int32} {par kin cl nm mk dk da ds ln tm ks ar sp cn me ho ev li : Nat → Int32} {ofn : Nat → Int64} {P : Nat}
theorem ca_xisP1 {post : Int32 → Prop} {j : Nat} (hP : P ≤ 6) (hj : j < P) (h : post 1) : wpX_isPiece post (fT, fH, (nI P), fD, fG, par, kin, cl, nm, mk, dk, da, ds, ln, tm, ks, ar, sp, cn, me, ho, ev, ofn, li) (nI j) :=
  br_f (nI_pos (by omega)) (br_f (nI_ge hj (by omega)) h)
theorem ca_xisP0 {post : Int32 → Prop} {v : Int32} (hv : v < 0 ∨ nI P ≤ v) (h : post 0) : wpX_isPiece post (fT, fH, (nI P), fD, fG, par, kin, cl, nm, mk, dk, da, ds, ln, tm, ks, ar, sp, cn, me, ho, ev, ofn, li) v := by
  by_cases z : v < 0
  · exact br_t z h
  · exact br_f z (br_t (hv.resolve_left z) h)
end
section
variable {fT fH fP fD fG tp : Int32} {par cl nm mk me dk da ln tm cn ks ar li tr pt : Nat → Int32} {P : Nat}
theorem ca_yisP1 {post : Int32 → Prop} {j : Nat} (hP : P ≤ 6) (hj : j < P) (h : post 1) : wpY_isPiece post (fD, fT, fH, (nI P), fG, tp, par, cl, nm, mk, me, dk, da, ln, tm, cn, ks, ar, li, tr, pt) (nI j) :=
  br_f (nI_pos (by omega)) (br_f (nI_ge hj (by omega)) h)
theorem ca_yisP0 {post : Int32 → Prop} {v : Int32} (hv : v < 0 ∨ nI P ≤ v) (h : post 0) : wpY_isPiece post (fD, fT, fH, (nI P), fG, tp, par, cl, nm, mk, me, dk, da, ln, tm, cn, ks, ar, li, tr, pt) v := by
  by_cases z : v < 0
  · exact br_t z h
  · exact br_f z (br_t (hv.resolve_left z) h)
end
theorem ca_pc (v : Int32) {n : Nat} (hn : n < 2 ^ 31) : (v < 0 ∨ nI n ≤ v) ∨ ∃ j : Nat, j < n ∧ v = nI j := by
  rcases pk_ix v hn with h | h | h
  · exact Or.inl (Or.inl h)
  · exact Or.inl (Or.inr h)
  · exact Or.inr h
theorem i_vc_clear {k : Nat} {u : SX} {v : SY} (I : i_Rel k u v) (hk : k + 5 ≤ 2560) : wpX_clear (fun r u' => wpY_clear (fun r' v' => r' = r ∧ i_Rel (k + 5) u' v') v) u := by
  refine ca_el (Q := fun u v => wpX_clear (fun r u' => wpY_clear (fun r' v' => r' = r ∧ i_Rel (k + 5) u' v') v) u) ?_ I
  intro T H P D G par kin cl nm mk dk da ds ln tm ks ar sp cn me ho ev li ofn tp tr pt S
  have K := ca_keep (tm := tm) (cn := cn) (li := li) (tp := tp) (tr := tr) (pt := pt) S
  obtain ⟨hT, hH6, hP, hD, hG, FK, CL, ME, hH, WD, PW, CW⟩ := S
  exact And.intro rfl (ca_mk (T := 0) (H := 0) ⟨by omega, by omega, hP, hD, by omega, FK, CL, ME, rfl, fun t h => absurd h (Nat.not_lt_zero t), PW, CW⟩)
theorem i_vc_drop {k : Nat} {u : SX} {v : SY} (I : i_Rel k u v) (hk : k + 5 ≤ 2560) : wpX_drop (fun r u' => wpY_drop (fun r' v' => r' = r ∧ i_Rel (k + 5) u' v') v) u := by
  refine ca_el (Q := fun u v => wpX_drop (fun r u' => wpY_drop (fun r' v' => r' = r ∧ i_Rel (k + 5) u' v') v) u) ?_ I
  intro T H P D G par kin cl nm mk dk da ds ln tm ks ar sp cn me ho ev li ofn tp tr pt S
  have K := ca_keep (tm := tm) (cn := cn) (li := li) (tp := tp) (tr := tr) (pt := pt) S
  obtain ⟨hT, hH6, hP, hD, hG, FK, CL, ME, hH, WD, PW, CW⟩ := S
  rcases Nat.eq_zero_or_pos P with z | z
  · subst z
    exact br_t rfl (br_t rfl (And.intro rfl K))
  · have nz := nI_ne0 z (by omega)
    rcases Nat.eq_zero_or_pos D with d | d
    · subst d
      exact br_f nz (br_t (by decide) (nm_r (ca_pm z) (br_f nz (br_t (by decide) (nm_r (ca_pm z) (And.intro rfl (ca_mk ⟨hT, hH6, by omega, hD, by omega, FK, CL, ME, hH, WD, fun p hp => PW p (by omega), ca_CW0⟩)))))))
    · have nd := nI_nle d (by omega)
      exact br_f nz (br_f nd (br_f nz (br_f nd (And.intro rfl K))))
theorem i_vc_unwind {k : Nat} {u : SX} {v : SY} (I : i_Rel k u v) (hk : k + 5 ≤ 2560) : wpX_unwind (fun r u' => wpY_unwind (fun r' v' => r' = r ∧ i_Rel (k + 5) u' v') v) u := by
  refine ca_el (Q := fun u v => wpX_unwind (fun r u' => wpY_unwind (fun r' v' => r' = r ∧ i_Rel (k + 5) u' v') v) u) ?_ I
  intro T H P D G par kin cl nm mk dk da ds ln tm ks ar sp cn me ho ev li ofn tp tr pt S
  have K := ca_keep (tm := tm) (cn := cn) (li := li) (tp := tp) (tr := tr) (pt := pt) S
  obtain ⟨hT, hH6, hP, hD, hG, FK, CL, ME, hH, WD, PW, CW⟩ := S
  exact And.intro rfl (ca_mk (D := 0) ⟨hT, hH6, hP, by omega, by omega, FK, CL, ca_ME0, hH, WD, PW, ca_CW0⟩)
theorem i_vc_depth {k : Nat} {u : SX} {v : SY} (I : i_Rel k u v) (hk : k + 5 ≤ 2560) : wpX_depth (fun r => wpY_depth (fun r' => r' = r ∧ i_Rel (k + 5) u v) v) u := by
  refine ca_el (Q := fun u v => wpX_depth (fun r => wpY_depth (fun r' => r' = r ∧ i_Rel (k + 5) u v) v) u) ?_ I
  intro T H P D G par kin cl nm mk dk da ds ln tm ks ar sp cn me ho ev li ofn tp tr pt S
  have K := ca_keep (tm := tm) (cn := cn) (li := li) (tp := tp) (tr := tr) (pt := pt) S
  obtain ⟨hT, hH6, hP, hD, hG, FK, CL, ME, hH, WD, PW, CW⟩ := S
  exact And.intro rfl K
theorem i_vc_given {k : Nat} {u : SX} {v : SY} (I : i_Rel k u v) (hk : k + 5 ≤ 2560) : wpX_given (fun r => wpY_given (fun r' => r' = r ∧ i_Rel (k + 5) u v) v) u := by
  refine ca_el (Q := fun u v => wpX_given (fun r => wpY_given (fun r' => r' = r ∧ i_Rel (k + 5) u v) v) u) ?_ I
  intro T H P D G par kin cl nm mk dk da ds ln tm ks ar sp cn me ho ev li ofn tp tr pt S
  have K := ca_keep (tm := tm) (cn := cn) (li := li) (tp := tp) (tr := tr) (pt := pt) S
  obtain ⟨hT, hH6, hP, hD, hG, FK, CL, ME, hH, WD, PW, CW⟩ := S
  exact And.intro rfl K
theorem i_vc_methodAt {k : Nat} {u : SX} {v : SY} (I : i_Rel k u v) (hk : k + 5 ≤ 2560) (v1 : Int32) : wpX_methodAt (fun r => wpY_methodAt (fun r' => r' = r ∧ i_Rel (k + 5) u v) v v1) u v1 := by
  refine ca_el (Q := fun u v => wpX_methodAt (fun r => wpY_methodAt (fun r' => r' = r ∧ i_Rel (k + 5) u v) v v1) u v1) ?_ I
  intro T H P D G par kin cl nm mk dk da ds ln tm ks ar sp cn me ho ev li ofn tp tr pt S
  have K := ca_keep (tm := tm) (cn := cn) (li := li) (tp := tp) (tr := tr) (pt := pt) S
  obtain ⟨hT, hH6, hP, hD, hG, FK, CL, ME, hH, WD, PW, CW⟩ := S
  rcases ca_pc v1 (n := D) (by omega) with h | ⟨j, hj, rfl⟩
  · by_cases z : v1 < 0
    · exact br_t z (br_t z (And.intro rfl K))
    · have h' := h.resolve_left z
      exact br_f z (br_t h' (br_f z (br_t h' (And.intro rfl K))))
  · have n0 := nI_pos (n := j) (by omega)
    have n1 := nI_ge hj (by omega)
    exact br_f n0 (br_f n1 (And.intro (vp_in_nI (by omega) (by decide)) (br_f n0 (br_f n1 (And.intro (vp_in_nI (by omega) (by decide)) (And.intro rfl K))))))
theorem i_vc_count {k : Nat} {u : SX} {v : SY} (I : i_Rel k u v) (hk : k + 5 ≤ 2560) (v1 : Int32) : wpX_count (fun r => wpY_count (fun r' => r' = r ∧ i_Rel (k + 5) u v) v v1) u v1 := by
  refine ca_el (Q := fun u v => wpX_count (fun r => wpY_count (fun r' => r' = r ∧ i_Rel (k + 5) u v) v v1) u v1) ?_ I
  intro T H P D G par kin cl nm mk dk da ds ln tm ks ar sp cn me ho ev li ofn tp tr pt S
  have K := ca_keep (tm := tm) (cn := cn) (li := li) (tp := tp) (tr := tr) (pt := pt) S
  obtain ⟨hT, hH6, hP, hD, hG, FK, CL, ME, hH, WD, PW, CW⟩ := S
  rcases ca_pc v1 (n := P) (by omega) with h | ⟨j, hj, rfl⟩
  · unfold wpX_count wpY_count
    exact ca_xisP0 h (br_t rfl (ca_yisP0 h (br_t rfl (And.intro rfl K))))
  · unfold wpX_count wpY_count
    have vp : vp_in (nI j) 6 := vp_in_nI (by omega) (by decide)
    exact ca_xisP1 hP hj (br_f ca_n1 (And.intro vp (ca_yisP1 hP hj (br_f ca_n1 (And.intro vp (And.intro rfl K))))))
theorem i_vc_last {k : Nat} {u : SX} {v : SY} (I : i_Rel k u v) (hk : k + 5 ≤ 2560) (v1 : Int32) : wpX_last (fun r => wpY_last (fun r' => r' = r ∧ i_Rel (k + 5) u v) v v1) u v1 := by
  refine ca_el (Q := fun u v => wpX_last (fun r => wpY_last (fun r' => r' = r ∧ i_Rel (k + 5) u v) v v1) u v1) ?_ I
  intro T H P D G par kin cl nm mk dk da ds ln tm ks ar sp cn me ho ev li ofn tp tr pt S
  have K := ca_keep (tm := tm) (cn := cn) (li := li) (tp := tp) (tr := tr) (pt := pt) S
  obtain ⟨hT, hH6, hP, hD, hG, FK, CL, ME, hH, WD, PW, CW⟩ := S
  by_cases z : v1 < 0
  · exact br_t z (br_t z (And.intro rfl K))
  · obtain ⟨j, hj, rfl⟩ := nI_of z
    rcases Nat.lt_or_ge j G with l | l
    · have g1 := nI_ge l (by omega)
      rcases Nat.lt_or_ge j 64 with m | m
      · have er : ((nI G - 1) - nI j) - ((nI G - 1) - nI j) / 64 * 64 = nI ((G - 1 - j) % 64) := by
          rw [ca_pm (by omega), pk_sub (by omega)]
          exact pk_rem (d := 64) (by omega) (by omega) (by omega)
        have l64 : (G - 1 - j) % 64 < 64 := Nat.mod_lt _ (by decide)
        have vx : vp_in (((nI G - 1) - nI j) - ((nI G - 1) - nI j) / 64 * 64) 64 := by rw [er]; exact vp_in_nI l64 (by decide)
        exact br_f z (br_f g1 (br_t (nI_lt (b := 64) m (by decide)) (And.intro (by decide) (And.intro vx (br_f z (br_f (nI_ge (b := 64) m (by decide)) (br_f g1 (And.intro (by decide) (And.intro vx (And.intro rfl K))))))))))
      · exact br_f z (br_f g1 (br_f (nI_nlt (b := 64) m hj) (br_f z (br_t (nI_le (a := 64) m hj) (And.intro rfl K)))))
    · have g1 : nI G ≤ nI j := nI_le l hj
      refine br_f z (br_t g1 (br_f z ?_))
      exact br_c (fun _ => And.intro rfl K) (fun _ => br_t g1 (And.intro rfl K))
theorem i_vc_define {k : Nat} {u : SX} {v : SY} (I : i_Rel k u v) (hk : k + 5 ≤ 2560) (v1 : Int32) (v2 : Int32) (v3 : Int32) (v4 : Int32) : wpX_define (fun r u' => wpY_define (fun r' v' => r' = r ∧ i_Rel (k + 5) u' v') v v1 v2 v3 v4) u v1 v2 v3 v4 := by
  refine ca_el (Q := fun u v => wpX_define (fun r u' => wpY_define (fun r' v' => r' = r ∧ i_Rel (k + 5) u' v') v v1 v2 v3 v4) u v1 v2 v3 v4) ?_ I
  intro T H P D G par kin cl nm mk dk da ds ln tm ks ar sp cn me ho ev li ofn tp tr pt S
  have K := ca_keep (tm := tm) (cn := cn) (li := li) (tp := tp) (tr := tr) (pt := pt) S
  obtain ⟨hT, hH6, hP, hD, hG, FK, CL, ME, hH, WD, PW, CW⟩ := S
  rcases ca_pc v1 (n := 16) (by omega) with h | ⟨m, hm, rfl⟩
  · unfold wpX_define wpY_define
    refine ca_xisM0 h (br_t rfl ?_)
    by_cases z : v1 < 0
    · exact br_t z (And.intro rfl K)
    · exact br_f z (br_f (ca_1516 (h.resolve_left z)) (And.intro rfl K))
  · have m0 := nI_pos (n := m) (by omega)
    have m15 : nI m ≤ 15 := nI_le (b := 15) (by omega) (by decide)
    unfold wpX_define wpY_define
    refine ca_xisM1 hm (br_f ca_n1 ?_)
    rcases ca_pc v2 (n := 8) (by omega) with h | ⟨c, hc, rfl⟩
    · by_cases z : v2 < 0
      · exact br_t z (br_f m0 (br_t m15 (br_t z (And.intro rfl K))))
      · have h8 : (8 : Int32) ≤ v2 := h.resolve_left z
        exact br_f z (br_t h8 (br_f m0 (br_t m15 (br_f z (br_t (ca_78 h8) (And.intro rfl K))))))
    · have c0 := nI_pos (n := c) (by omega)
      have c8 : ¬ (8 : Int32) ≤ nI c := nI_ge (b := 8) hc (by decide)
      have c7 : ¬ (7 : Int32) < nI c := nI_nlt (a := 7) (by omega) (by decide)
      refine br_f c0 (br_f c8 ?_)
      by_cases n0 : v3 < 0
      · exact br_t n0 (br_f m0 (br_t m15 (br_f c0 (br_f c7 (br_t n0 (And.intro rfl K))))))
      by_cases n9 : 9 < v3
      · exact br_f n0 (br_t n9 (br_f m0 (br_t m15 (br_f c0 (br_f c7 (br_f n0 (br_t n9 (And.intro rfl K))))))))
      by_cases k0 : v4 < 0
      · exact br_f n0 (br_f n9 (br_t k0 (br_f m0 (br_t m15 (br_f c0 (br_f c7 (br_f n0 (br_f n9 (br_t k0 (And.intro rfl K))))))))))
      by_cases k15 : v4 ≤ 15
      · rcases Nat.eq_zero_or_pos D with d | d
        · subst d
          have vm : vp_in (nI m) 16 := vp_in_nI hm (by decide)
          have cm : (nI m).toNatClampNeg = m := nI_clamp (by omega)
          refine br_f n0 (br_f n9 (br_f k0 (br_t k15 (br_t (by decide) (And.intro vm (nm_r (e' := upd cl m (nI c)) (by rw [cm]) (And.intro vm (nm_r (e' := upd nm m v3) (by rw [cm]) (And.intro vm (nm_r (e' := upd mk m v4) (by rw [cm]) ?_))))))))))
          refine br_f m0 (br_t m15 (br_f c0 (br_f c7 (br_f n0 (br_f n9 (br_f k0 (br_t k15 (br_t (by decide) (And.intro vm (nm_r (e' := upd cl m (nI c)) (by rw [cm]) (And.intro vm (nm_r (e' := upd nm m v3) (by rw [cm]) (And.intro vm (nm_r (e' := upd mk m v4) (by rw [cm]) ?_))))))))))))))
          exact And.intro rfl (ca_mk (D := 0) ⟨hT, hH6, hP, hD, by omega, FK, ca_CL_u hc CL, ca_ME0, hH, WD, PW, ca_CW0⟩)
        · have nd := nI_nle d (by omega)
          exact br_f n0 (br_f n9 (br_f k0 (br_t k15 (br_f nd (br_f m0 (br_t m15 (br_f c0 (br_f c7 (br_f n0 (br_f n9 (br_f k0 (br_t k15 (br_f nd (And.intro rfl K))))))))))))))
      · exact br_f n0 (br_f n9 (br_f k0 (br_f k15 (br_f m0 (br_t m15 (br_f c0 (br_f c7 (br_f n0 (br_f n9 (br_f k0 (br_f k15 (And.intro rfl K))))))))))))
theorem i_vc_holds {k : Nat} {u : SX} {v : SY} (I : i_Rel k u v) (hk : k + 5 ≤ 2560) (v1 : Int32) (v2 : Int32) : wpX_holds (fun r => wpY_holds (fun r' v' => r' = r ∧ i_Rel (k + 5) u v') v v1 v2) u v1 v2 := by
  refine ca_el (Q := fun u v => wpX_holds (fun r => wpY_holds (fun r' v' => r' = r ∧ i_Rel (k + 5) u v') v v1 v2) u v1 v2) ?_ I
  intro T H P D G par kin cl nm mk dk da ds ln tm ks ar sp cn me ho ev li ofn tp tr pt S
  have K := ca_keep (tm := tm) (cn := cn) (li := li) (tp := tp) (tr := tr) (pt := pt) S
  obtain ⟨hT, hH6, hP, hD, hG, FK, CL, ME, hH, WD, PW, CW⟩ := S
  rcases ca_pc v1 (n := P) (by omega) with h | ⟨p, hp, rfl⟩
  · unfold wpX_holds wpY_holds
    exact ca_xisP0 h (br_t rfl (ca_yisP0 h (br_t rfl (And.intro rfl K))))
  · rcases ca_pc v2 (n := D) (by omega) with h | ⟨j, hj, rfl⟩
    · unfold wpX_holds wpY_holds
      refine ca_xisP1 hP hp (br_f ca_n1 ?_)
      by_cases z : v2 < 0
      · exact br_t z (ca_yisP1 hP hp (br_f ca_n1 (br_t z (And.intro rfl K))))
      · have n2 : ¬ v2 < nI D := Int32.not_lt.mpr (h.resolve_left z)
        exact br_f z (br_f n2 (ca_yisP1 hP hp (br_f ca_n1 (br_f z (br_f n2 (And.intro rfl K))))))
    · have j0 := nI_pos (n := j) (by omega)
      have jd := nI_lt hj (by omega)
      obtain ⟨tp', tr', pt', HY⟩ := ca_ytrueP (fD := nI D) (fT := nI T) (fH := nI H) (fP := nI P) (fG := nI G) (tp := tp) (tr := tr) (pt := pt) (dk := dk) (da := da) (tm := tm) (cn := cn) (li := li) (nm := nm) (mk := mk) FK CL hP hp (show j < 20 by omega) (fun q hq => ME q (by omega)) PW
      unfold wpX_holds wpY_holds
      refine ca_xisP1 hP hp (br_f ca_n1 (br_f j0 (br_t jd (ca_xwholeP hP hp (by omega) PW (CW p j hp hj) ?_))))
      refine ca_br _ (fun z => ?_) (fun z => ?_)
      · refine ca_yisP1 hP hp (br_f ca_n1 (br_f j0 (br_t jd (HY _ ?_))))
        rw [z]
        exact br_t rfl (And.intro rfl (ca_mk ⟨hT, hH6, hP, hD, by omega, FK, CL, ME, hH, WD, PW, CW⟩))
      · refine ca_yisP1 hP hp (br_f ca_n1 (br_f j0 (br_t jd (HY _ ?_))))
        rw [z]
        exact br_f ca_n1 (And.intro rfl (ca_mk ⟨hT, hH6, hP, hD, by omega, FK, CL, ME, hH, WD, PW, CW⟩))
end
section
/-! the constructors, derive, token, advise -/
def ca_F1 (par kin : Nat → Int32) (k : Nat) : Prop := (par k = -1 ∧ ∀ b, b < 8 → bt (kin k) b = decide (b = k)) ∨ (∃ j, j < k ∧ par k = nI j ∧ ∀ b, b < 8 → bt (kin k) b = (decide (b = k) || bt (kin j) b))
theorem ca_F1u {par kin : Nat → Int32} {k c : Nat} {x : Int32} (h : k < c) (F : ca_F1 par kin k) : ca_F1 par (upd kin c x) k := by
  rcases F with ⟨e, f⟩ | ⟨j, hj, e, f⟩
  · exact Or.inl ⟨e, fun b hb => by rw [pk_un (by omega)]; exact f b hb⟩
  · exact Or.inr ⟨j, hj, e, fun b hb => by rw [pk_un (show k ≠ c by omega), pk_un (show j ≠ c by omega)]; exact f b hb⟩
section
variable {fT fH fP fD fG : Int32} {par kin cl nm mk dk da ds ln tm ks ar sp cn me ho ev li : Nat → Int32} {ofn : Nat → Int64} {tp : Int32} {tr pt : Nat → Int32}
theorem ca_xder {x3 : Int32} (hv : ∀ c, c < 8 → par c = -1 ∨ ∃ j, j < c ∧ par c = nI j) : ∀ d c, c + d = 8 → ∀ kin : Nat → Int32, (∀ q, q < c → ca_F1 par kin q) →
    ∃ kin' : Nat → Int32, ca_FK par kin' ∧ ∀ post : Int32 → SX → Prop, post x3 (fT, fH, fP, fD, fG, par, kin', cl, nm, mk, dk, da, ds, ln, tm, ks, ar, sp, cn, me, ho, ev, ofn, li) → ∀ n, d < n → wX_derive_49 post x3 fT fH fP fD fG n (nI c) par kin cl nm mk dk da ds ln tm ks ar sp cn me ho ev ofn li := by
  intro d
  induction d with
  | zero =>
    intro c hc kin hF
    refine ⟨kin, fun k hk => hF k (by omega), fun post hp n hn => ?_⟩
    obtain ⟨n, rfl⟩ : ∃ k, n = k + 1 := ⟨n - 1, by omega⟩
    exact br_t (nI_le (a := 8) (by omega) (by omega)) hp
  | succ d ih =>
    intro c hc kin hF
    have vc : vp_in (nI c) 8 := vp_in_nI (by omega) (by decide)
    have cc : (nI c).toNatClampNeg = c := nI_clamp (by omega)
    rcases hv c (by omega) with e | ⟨j, hj, e⟩
    · obtain ⟨kin', F, W⟩ := ih (c + 1) (by omega) (upd kin c (((1 : Int32) <<< (nI c &&& 31)) ||| 0)) (fun q hq => by
        by_cases z : q = c
        · subst z
          exact Or.inl ⟨e, fun b hb => by rw [pk_us, ca_or0, ca_shl1 (by omega) (by omega)]⟩
        · exact ca_F1u (by omega) (hF q (by omega)))
      refine ⟨kin', F, fun post hp n hn => ?_⟩
      obtain ⟨n, rfl⟩ : ∃ k, n = k + 1 := ⟨n - 1, by omega⟩
      refine br_f (nI_ge (b := 8) (by omega) (by decide)) (And.intro vc ?_)
      rw [cc, e]
      exact br_f (by decide) (And.intro vc (nm_e (nm_r (nI_1 c) (W post hp n (by omega)))))
    · obtain ⟨kin', F, W⟩ := ih (c + 1) (by omega) (upd kin c (((1 : Int32) <<< (nI c &&& 31)) ||| kin j)) (fun q hq => by
        by_cases z : q = c
        · subst z
          exact Or.inr ⟨j, hj, e, fun b hb => by rw [pk_us, pk_un (show j ≠ q by omega), b_or, ca_shl1 (by omega) (by omega)]⟩
        · exact ca_F1u (by omega) (hF q (by omega)))
      refine ⟨kin', F, fun post hp n hn => ?_⟩
      obtain ⟨n, rfl⟩ : ∃ k, n = k + 1 := ⟨n - 1, by omega⟩
      refine br_f (nI_ge (b := 8) (by omega) (by decide)) (And.intro vc ?_)
      rw [cc, e]
      refine br_t (nI_pos' (by omega)) (And.intro vc (And.intro (vp_in_nI (by omega) (by decide)) (And.intro vc (nm_r (e' := upd kin c (((1 : Int32) <<< (nI c &&& 31)) ||| kin j)) (by rw [nI_clamp (show j < 2 ^ 31 by omega)]) (nm_r (nI_1 c) (W post hp n (by omega)))))))
theorem ca_initL : ∀ d c, c + d = 8 → ∀ par kin : Nat → Int32, (∀ q, q < c → ca_F1 par kin q ∧ par q = -1) →
    ∃ par' kin' : Nat → Int32, ca_FK par' kin' ∧ (∀ post : SX → Prop, post (fT, fH, fP, fD, fG, par', kin', cl, nm, mk, dk, da, ds, ln, tm, ks, ar, sp, cn, me, ho, ev, ofn, li) → ∀ n, d < n → wX_init_158 post fT fH fP fD fG n (nI c) par kin cl nm mk dk da ds ln tm ks ar sp cn me ho ev ofn li) ∧ (∀ post : SY → Prop, post (fD, fT, fH, fP, fG, tp, par', cl, nm, mk, me, dk, da, ln, tm, cn, ks, ar, li, tr, pt) → ∀ n, d < n → wY_init_127 post fD fT fH fP fG tp n (nI c) par cl nm mk me dk da ln tm cn ks ar li tr pt) := by
  intro d
  induction d with
  | zero =>
    intro c hc par kin hF
    refine ⟨par, kin, fun k hk => (hF k (by omega)).1, fun post hp n hn => ?_, fun post hp n hn => ?_⟩
    · obtain ⟨n, rfl⟩ : ∃ k, n = k + 1 := ⟨n - 1, by omega⟩
      exact br_t (nI_le (a := 8) (by omega) (by omega)) hp
    · obtain ⟨n, rfl⟩ : ∃ k, n = k + 1 := ⟨n - 1, by omega⟩
      exact br_t (nI_le (a := 8) (by omega) (by omega)) hp
  | succ d ih =>
    intro c hc par kin hF
    have vc : vp_in (nI c) 8 := vp_in_nI (by omega) (by decide)
    have cc : (nI c).toNatClampNeg = c := nI_clamp (by omega)
    obtain ⟨par', kin', F, WX, WY⟩ := ih (c + 1) (by omega) (upd par c (-1)) (upd kin c ((1 : Int32) <<< (nI c &&& 31))) (fun q hq => by
      by_cases z : q = c
      · subst z
        exact ⟨Or.inl ⟨pk_us, fun b hb => by rw [pk_us, ca_shl1 (by omega) (by omega)]⟩, pk_us⟩
      · have e : upd par c (-1) q = -1 := by rw [pk_un z]; exact (hF q (by omega)).2
        refine ⟨Or.inl ⟨e, fun b hb => ?_⟩, e⟩
        rw [pk_un z]
        rcases (hF q (by omega)).1 with ⟨_, f⟩ | ⟨j, _, e2, _⟩
        · exact f b hb
        · rw [(hF q (by omega)).2] at e2
          exact absurd e2 (ca_neg (by omega)))
    refine ⟨par', kin', F, fun post hp n hn => ?_, fun post hp n hn => ?_⟩
    · obtain ⟨n, rfl⟩ : ∃ k, n = k + 1 := ⟨n - 1, by omega⟩
      exact br_f (nI_ge (b := 8) (by omega) (by decide)) (And.intro vc (nm_r (e' := upd par c (-1)) (by rw [cc]) (And.intro vc (nm_r (e' := upd kin c ((1 : Int32) <<< (nI c &&& 31))) (by rw [cc]) (nm_r (nI_1 c) (WX post hp n (by omega)))))))
    · obtain ⟨n, rfl⟩ : ∃ k, n = k + 1 := ⟨n - 1, by omega⟩
      exact br_f (nI_ge (b := 8) (by omega) (by decide)) (And.intro vc (nm_r (e' := upd par c (-1)) (by rw [cc]) (nm_r (nI_1 c) (WY post hp n (by omega)))))
end
theorem i_vc0 : wpX_init (fun u => wpY_init (fun v => i_Rel 0 u v)) := by
  obtain ⟨par', kin', F, WX, WY⟩ := ca_initL (fT := 0) (fH := 0) (fP := 0) (fD := 0) (fG := 0) (tp := 0) (cl := fun _ => 0) (nm := fun _ => 0) (mk := fun _ => 0) (dk := fun _ => 0) (da := fun _ => 0) (ds := fun _ => 0) (ln := fun _ => 0) (tm := fun _ => 0) (ks := fun _ => 0) (ar := fun _ => 0) (sp := fun _ => 0) (cn := fun _ => 0) (me := fun _ => 0) (ho := fun _ => 0) (ev := fun _ => 0) (li := fun _ => 0) (ofn := fun _ => 0) (tr := fun _ => 0) (pt := fun _ => 0) 8 0 rfl (fun _ => 0) (fun _ => 0) (fun q h => absurd h (Nat.not_lt_zero q))
  refine Exists.intro 9 (WX _ (Exists.intro 9 (WY _ ?_ 9 (by omega))) 9 (by omega))
  exact ca_mk (T := 0) (H := 0) (P := 0) (D := 0) (G := 0) ⟨by omega, by omega, by omega, by omega, by omega, F, fun m _ => ⟨0, by omega, rfl⟩, ca_ME0, rfl, fun t h => absurd h (Nat.not_lt_zero t), fun p h => absurd h (Nat.not_lt_zero p), ca_CW0⟩
theorem ca_parv {v : Int32} {c : Nat} (hc : c < 8) (h1 : ¬ v < -1) (h2 : v < nI c) : v = -1 ∨ ∃ j, j < c ∧ v = nI j := by
  by_cases z : v < 0
  · left
    apply Int32.toInt_inj.mp
    rw [Int32.lt_iff_toInt_lt, show (-1 : Int32).toInt = -1 from by decide] at h1
    rw [Int32.lt_iff_toInt_lt, show (0 : Int32).toInt = 0 from by decide] at z
    rw [show (-1 : Int32).toInt = -1 from by decide]
    omega
  · obtain ⟨j, hj, rfl⟩ := nI_of z
    exact Or.inr ⟨j, (nI_ltI hj (by omega)).mp h2, rfl⟩
theorem ca_FKv {par kin : Nat → Int32} (F : ca_FK par kin) {c : Nat} {v : Int32} (hv : v = -1 ∨ ∃ j, j < c ∧ v = nI j) : ∀ q, q < 8 → upd par c v q = -1 ∨ ∃ j, j < q ∧ upd par c v q = nI j := by
  intro q hq
  by_cases e : q = c
  · subst e; rw [pk_us]; exact hv
  · rw [pk_un e]
    rcases F q hq with ⟨a, _⟩ | ⟨j, hj, a, _⟩
    · exact Or.inl a
    · exact Or.inr ⟨j, hj, a⟩
theorem i_vc_derive {k : Nat} {u : SX} {v : SY} (I : i_Rel k u v) (hk : k + 5 ≤ 2560) (v1 : Int32) (v2 : Int32) : wpX_derive (fun r u' => wpY_derive (fun r' v' => r' = r ∧ i_Rel (k + 5) u' v') v v1 v2) u v1 v2 := by
  refine ca_el (Q := fun u v => wpX_derive (fun r u' => wpY_derive (fun r' v' => r' = r ∧ i_Rel (k + 5) u' v') v v1 v2) u v1 v2) ?_ I
  intro T H P D G par kin cl nm mk dk da ds ln tm ks ar sp cn me ho ev li ofn tp tr pt S
  have K := ca_keep (tm := tm) (cn := cn) (li := li) (tp := tp) (tr := tr) (pt := pt) S
  obtain ⟨hT, hH6, hP, hD, hG, FK, CL, ME, hH, WD, PW, CW⟩ := S
  rcases ca_pc v1 (n := 8) (by omega) with h | ⟨c, hc, rfl⟩
  · by_cases z : v1 < 0
    · exact br_t z (br_t z (And.intro rfl K))
    · have h8 : (8 : Int32) ≤ v1 := h.resolve_left z
      exact br_f z (br_t h8 (br_f z (br_t (ca_78 h8) (And.intro rfl K))))
  · have c0 := nI_pos (n := c) (by omega)
    have c8 : ¬ (8 : Int32) ≤ nI c := nI_ge (b := 8) hc (by decide)
    have c7 : ¬ (7 : Int32) < nI c := nI_nlt (a := 7) (by omega) (by decide)
    by_cases z1 : v2 < -1
    · exact br_f c0 (br_f c8 (br_t z1 (br_f c0 (br_f c7 (br_t z1 (And.intro rfl K))))))
    by_cases z2 : v2 < nI c
    · rcases Nat.eq_zero_or_pos D with d | d
      · subst d
        have vm : vp_in (nI c) 8 := vp_in_nI hc (by decide)
        have cm : (nI c).toNatClampNeg = c := nI_clamp (by omega)
        obtain ⟨kin', F', W⟩ := ca_xder (fT := nI T) (fH := nI H) (fP := nI P) (fD := nI 0) (fG := nI G) (par := upd par c v2) (cl := cl) (nm := nm) (mk := mk) (dk := dk) (da := da) (ds := ds) (ln := ln) (tm := tm) (ks := ks) (ar := ar) (sp := sp) (cn := cn) (me := me) (ho := ho) (ev := ev) (li := li) (ofn := ofn) (x3 := par c) (ca_FKv FK (ca_parv hc z1 z2)) 8 0 rfl kin (fun q h => absurd h (Nat.not_lt_zero q))
        refine br_f c0 (br_f c8 (br_f z1 (br_t z2 (br_t (by decide) (And.intro vm (nm_r (e' := par c) (by rw [cm]) (And.intro vm (nm_r (e' := upd par c v2) (by rw [cm]) (Exists.intro 9 (W _ ?_ 9 (by omega)))))))))))
        exact br_f c0 (br_f c7 (br_f z1 (br_t z2 (br_t (by decide) (And.intro vm (nm_r (e' := par c) (by rw [cm]) (And.intro vm (nm_r (e' := upd par c v2) (by rw [cm]) (And.intro rfl (ca_mk (D := 0) ⟨hT, hH6, hP, hD, by omega, F', CL, ca_ME0, hH, WD, PW, ca_CW0⟩))))))))))
      · have nd := nI_nle d (by omega)
        exact br_f c0 (br_f c8 (br_f z1 (br_t z2 (br_f nd (br_f c0 (br_f c7 (br_f z1 (br_t z2 (br_f nd (And.intro rfl K))))))))))
    · exact br_f c0 (br_f c8 (br_f z1 (br_f z2 (br_f c0 (br_f c7 (br_f z1 (br_f z2 (And.intro rfl K))))))))
end
section
/-! token -/
def ca_ok (j : Nat) (a : Int32) : Bool :=
  match j with
  | 0 => decide (¬ a < 0) && decide (¬ 9 < a)
  | 1 => decide (¬ a < 0) && decide (¬ 7 < a)
  | 2 => decide (¬ a < 0) && decide (¬ 7 < a)
  | 3 => decide (¬ a < 0) && decide (¬ 3 < a)
  | 4 => decide (¬ a < 0) && decide (¬ 7 < a)
  | 5 => decide (¬ a < 0) && decide (¬ 20 < a)
  | 9 => decide (¬ a < 1) && decide (¬ 5 < a)
  | _ => true
theorem ca_two {post : Int32 → Prop} {c d : Prop} [Decidable c] [Decidable d] (hp : post (ca_b (decide (¬ c) && decide (¬ d)))) : (c → post 0) ∧ (¬ c → ((d → post 0) ∧ (¬ d → post 1))) := by
  by_cases z : c
  · rw [decide_eq_false (fun y => y z), Bool.false_and] at hp
    exact br_t z hp
  · rw [decide_eq_true z, Bool.true_and] at hp
    exact br_f z (ca_dr hp)
theorem ca_8i {a : Int32} : (8 : Int32) ≤ a ↔ (7 : Int32) < a := by
  rw [Int32.le_iff_toInt_le, Int32.lt_iff_toInt_lt, show (7 : Int32).toInt = 7 from by decide, show (8 : Int32).toInt = 8 from by decide]
  omega
theorem ca_x72 {post : Int32 → Prop} {a : Int32} (hp : post (ca_b (decide (¬ a < 0) && decide (¬ (7 : Int32) < a)))) : wX_fits_72 post a := by
  unfold wX_fits_72
  rw [ca_8i]
  exact ca_two hp
theorem ca_xfits {post : Int32 → Prop} {j : Nat} {a : Int32} (hj : j ≤ 13) (hp : post (ca_b (ca_ok j a))) : wpX_fits post (nI j) a := by
  refine br_f (nI_pos (by omega)) ?_
  match j, hj, hp with
  | 0, _, hp => exact br_f (by decide) (br_t rfl (ca_two hp))
  | 1, _, hp => exact br_f (by decide) (br_f (by decide) (br_t rfl (ca_x72 hp)))
  | 2, _, hp => exact br_f (by decide) (br_f (by decide) (br_f (by decide) (br_t rfl (ca_x72 hp))))
  | 3, _, hp => exact br_f (by decide) (br_f (by decide) (br_f (by decide) (br_f (by decide) (br_t rfl (ca_two hp)))))
  | 4, _, hp => exact br_f (by decide) (br_f (by decide) (br_f (by decide) (br_f (by decide) (br_f (by decide) (br_t rfl (ca_x72 hp))))))
  | 5, _, hp => exact br_f (by decide) (br_f (by decide) (br_f (by decide) (br_f (by decide) (br_f (by decide) (br_f (by decide) (br_t rfl (ca_two hp)))))))
  | 6, _, hp => exact br_f (by decide) (br_f (by decide) (br_f (by decide) (br_f (by decide) (br_f (by decide) (br_f (by decide) (br_f (by decide) (br_t rfl hp)))))))
  | 7, _, hp => exact br_f (by decide) (br_f (by decide) (br_f (by decide) (br_f (by decide) (br_f (by decide) (br_f (by decide) (br_f (by decide) (br_f (by decide) (br_t rfl hp))))))))
  | 8, _, hp => exact br_f (by decide) (br_f (by decide) (br_f (by decide) (br_f (by decide) (br_f (by decide) (br_f (by decide) (br_f (by decide) (br_f (by decide) (br_f (by decide) (br_t rfl hp)))))))))
  | 9, _, hp => exact br_f (by decide) (br_f (by decide) (br_f (by decide) (br_f (by decide) (br_f (by decide) (br_f (by decide) (br_f (by decide) (br_f (by decide) (br_f (by decide) (br_f (by decide) (br_t rfl (ca_two hp)))))))))))
  | j + 10, hj, hp => exact br_t (nI_lt (a := 9) (by omega) (by omega)) hp
section
variable {fT fH fP fD fG tp : Int32} {par cl nm mk me dk da ln tm cn ks ar li tr pt : Nat → Int32}
theorem ca_y36 {post : Int32 → Prop} {x1 x2 z0 h : Int32} (hm : ∀ q : Int32 → Prop, q h → wpY_most q (fD, fT, fH, fP, fG, tp, par, cl, nm, mk, me, dk, da, ln, tm, cn, ks, ar, li, tr, pt) x1) (hp : post (ca_b (decide (¬ x2 < z0) && decide (¬ h < x2)))) : wY_isToken_36 post x1 x2 z0 x2 fD fT fH fP fG tp par cl nm mk me dk da ln tm cn ks ar li tr pt := by
  by_cases z : x2 < z0
  · rw [decide_eq_false (fun y => y z), Bool.false_and] at hp
    exact br_t z hp
  · rw [decide_eq_true z, Bool.true_and] at hp
    exact br_f z (hm _ (ca_dr hp))
theorem ca_ytok {post : Int32 → Prop} {j : Nat} {a : Int32} (hj : j ≤ 13) (hp : post (ca_b (ca_ok j a))) : wpY_isToken post (fD, fT, fH, fP, fG, tp, par, cl, nm, mk, me, dk, da, ln, tm, cn, ks, ar, li, tr, pt) (nI j) a := by
  refine br_f (nI_pos (by omega)) (br_t (nI_le (b := 13) hj (by decide)) ?_)
  match j, hj, hp with
  | 0, _, hp => exact br_t (by decide) (br_f (by decide) (ca_y36 (fun q h => br_t rfl h) hp))
  | 1, _, hp => exact br_t (by decide) (br_f (by decide) (ca_y36 (fun q h => br_f (by decide) (br_t rfl h)) hp))
  | 2, _, hp => exact br_t (by decide) (br_f (by decide) (ca_y36 (fun q h => br_f (by decide) (br_f (by decide) (br_t rfl h))) hp))
  | 3, _, hp => exact br_t (by decide) (br_f (by decide) (ca_y36 (fun q h => br_f (by decide) (br_f (by decide) (br_f (by decide) (br_f (by decide) (br_t rfl h))))) hp))
  | 4, _, hp => exact br_t (by decide) (br_f (by decide) (ca_y36 (fun q h => br_f (by decide) (br_f (by decide) (br_f (by decide) (br_t rfl h)))) hp))
  | 5, _, hp => exact br_t (by decide) (br_f (by decide) (ca_y36 (fun q h => br_f (by decide) (br_f (by decide) (br_f (by decide) (br_f (by decide) (br_f (by decide) (br_t rfl h)))))) hp))
  | 6, _, hp => exact br_f (by decide) (br_f (by decide) hp)
  | 7, _, hp => exact br_f (by decide) (br_f (by decide) hp)
  | 8, _, hp => exact br_f (by decide) (br_f (by decide) hp)
  | 9, _, hp => exact br_f (by decide) (br_t rfl (br_t rfl (ca_y36 (fun q h => br_f (by decide) (br_f (by decide) (br_f (by decide) (br_f (by decide) (br_f (by decide) (br_f (by decide) h)))))) hp)))
  | j + 10, hj, hp => exact br_f (nI_nlt (b := 6) (by omega) (by omega)) (br_f (fun z => by have := (nI_eq (b := 9) (by omega) (by omega)).mp z; omega) hp)
end
theorem ca_okAO {j : Nat} {a : Int32} (h : ca_ok j a = true) : ca_AO j a := by
  constructor
  · intro e
    have h' : (decide (¬ a < 0) && decide (¬ (7 : Int32) < a)) = true := by
      rcases e with rfl | rfl <;> exact h
    rw [Bool.and_eq_true, decide_eq_true_eq, decide_eq_true_eq] at h'
    obtain ⟨c, hc, rfl⟩ := nI_of h'.1
    refine ⟨c, ?_, rfl⟩
    rcases Nat.lt_or_ge c 8 with l | l
    · exact l
    · exact absurd (nI_lt (a := 7) (by omega) hc) h'.2
  · rintro rfl
    have h' : (decide (¬ a < 1) && decide (¬ (5 : Int32) < a)) = true := h
    rw [Bool.and_eq_true, decide_eq_true_eq, decide_eq_true_eq] at h'
    have a0 : ¬ a < 0 := by
      intro z
      apply h'.1
      rw [Int32.lt_iff_toInt_lt] at z ⊢
      rw [show (0 : Int32).toInt = 0 from by decide] at z
      rw [show (1 : Int32).toInt = 1 from by decide]
      omega
    obtain ⟨c, hc, rfl⟩ := nI_of a0
    refine ⟨c, ?_, ?_, rfl⟩
    · rcases Nat.eq_zero_or_pos c with z | z
      · subst z
        exact absurd (by decide) h'.1
      · exact z
    · rcases Nat.lt_or_ge c 6 with l | l
      · omega
      · exact absurd (nI_lt (a := 5) (by omega) hc) h'.2
/-! a draft with one token more -/
theorem ca_W1_c {kd kd' sp sp' : Nat → Nat} {n t : Nat} (hk : ∀ s, s < n → kd s = kd' s) (hs : ∀ s, s < n → sp s = sp' s) (ht : t < n) (H : ca_W1 kd sp t) : ca_W1 kd' sp' t := by
  obtain ⟨a, b, c, d⟩ := H
  have e1 := ca_hg_c (kd := kd) (kd' := kd') t (fun s h => hk s (by omega))
  have e2 := ca_hg_c (kd := kd) (kd' := kd') (t + 1) (fun s h => hk s (by omega))
  have e3 := hk t ht
  have e4 := hs t ht
  have e5 := hs (t - 1) (by omega)
  have e6 := hs (t - 1 - sp (t - 1)) (by omega)
  unfold ca_W1 ca_sr at *
  rw [← e1, ← e2, ← e3, ← e4, ← e5, ← e6]
  exact ⟨a, b, c, d⟩
theorem ca_WF_c {K A S K' A' S' : Nat → Int32} {n : Nat} (hk : ∀ s, s < n → K s = K' s) (ha : ∀ s, s < n → A s = A' s) (hs : ∀ s, s < n → S s = S' s) (W : ca_WF K A S n) : ca_WF K' A' S' n := by
  intro t ht
  obtain ⟨a, b, c, d⟩ := W t ht
  have nk : ∀ s, s < n → ca_nf K s = ca_nf K' s := fun s h => by show (K s).toNatClampNeg = (K' s).toNatClampNeg; rw [hk s h]
  have ns : ∀ s, s < n → ca_nf S s = ca_nf S' s := fun s h => by show (S s).toNatClampNeg = (S' s).toNatClampNeg; rw [hs s h]
  refine ⟨?_, ?_, ?_, ca_W1_c nk ns ht d⟩
  · rw [← hk t ht]; exact a
  · rw [← nk t ht, ← ha t ht]; exact b
  · rw [← hs t ht, ← ns t ht]; exact c
theorem ca_nfu {K : Nat → Int32} {T j : Nat} (hj : j < 2 ^ 31) : ca_nf (upd K T (nI j)) T = j := by
  show (upd K T (nI j) T).toNatClampNeg = j
  rw [pk_us, nI_clamp hj]
theorem ca_nfn {K : Nat → Int32} {T s : Nat} {x : Int32} (h : s ≠ T) : ca_nf (upd K T x) s = ca_nf K s := by
  show (upd K T x s).toNatClampNeg = _
  rw [pk_un h]; rfl
theorem ca_hgu {K : Nat → Int32} {T : Nat} {x : Int32} : ca_hg (ca_nf (upd K T x)) T = ca_hg (ca_nf K) T := ca_hg_c T (fun s h => ca_nfn (by omega))
/-- the new token's whole -/
def ca_wh (ds : Nat → Int32) (T n : Nat) : Nat := if n = 0 then 1 else if n = 1 then 1 + ca_nf ds (T - 1) else 1 + ca_nf ds (T - 1) + ca_nf ds (T - 1 - ca_nf ds (T - 1))
theorem ca_spans {dk da ds : Nat → Int32} {T H : Nat} (WD : ca_WF dk da ds T) (hH : ca_hg (ca_nf dk) T = H) (h1 : 1 ≤ H) : 1 ≤ T ∧ ca_nf ds (T - 1) ≤ T ∧ ds (T - 1) = nI (ca_nf ds (T - 1)) ∧ (2 ≤ H → ca_nf ds (T - 1) ≤ T - 1 ∧ ca_nf ds (T - 1 - ca_nf ds (T - 1)) ≤ T - 1 - ca_nf ds (T - 1) + 1 ∧ ds (T - 1 - ca_nf ds (T - 1)) = nI (ca_nf ds (T - 1 - ca_nf ds (T - 1)))) := by
  have t1 : 1 ≤ T := ca_hg_zero (kd := ca_nf dk) (by omega)
  obtain ⟨_, _, s1, w⟩ := WD (T - 1) (by omega)
  have w3 := w.2.2.1
  refine ⟨t1, by omega, s1, fun h2 => ?_⟩
  have C := ca_chain (kd := ca_nf dk) (sp := ca_nf ds) T (fun s hs => (WD s hs).2.2.2)
  have d3 := C.2.2 (H - 2) (by omega)
  rw [show H - 2 + 1 = ca_hg (ca_nf dk) T - 1 by omega, C.1 t1] at d3
  have l1 : ca_nf ds (T - 1) ≤ T - 1 := by omega
  obtain ⟨_, _, s2, w'⟩ := WD (T - 1 - ca_nf ds (T - 1)) (by omega)
  exact ⟨l1, w'.2.2.1, s2⟩
theorem ca_WFs {dk da ds : Nat → Int32} {T H j : Nat} {a : Int32} (WD : ca_WF dk da ds T) (hT : T < 16) (hH : ca_hg (ca_nf dk) T = H) (hj : j ≤ 13) (ha : ca_AO j a) (hn : ca_tk j ≤ H) (h6 : H - ca_tk j + 1 ≤ 6) :
    ca_wh ds T (ca_tk j) ≤ T + 1 ∧ ca_WF (upd dk T (nI j)) (upd da T a) (upd ds T (nI (ca_wh ds T (ca_tk j)))) (T + 1) ∧ ca_hg (ca_nf (upd dk T (nI j))) (T + 1) = H - ca_tk j + 1 := by
  have wle : ca_wh ds T (ca_tk j) ≤ T + 1 := by
    unfold ca_wh
    split
    · omega
    · have q := ca_spans WD hH (by omega)
      split
      · omega
      · have tk2 := ca_tk_le j
        have := q.2.2.2 (by omega)
        omega
  have ek : ca_nf (upd dk T (nI j)) T = j := ca_nfu (by omega)
  have eh : ca_hg (ca_nf (upd dk T (nI j))) (T + 1) = H - ca_tk j + 1 := by
    show ca_hg (ca_nf (upd dk T (nI j))) T - ca_tk (ca_nf (upd dk T (nI j)) T) + 1 = _
    rw [ca_hgu, ek, hH]
  refine ⟨wle, fun t ht => ?_, eh⟩
  by_cases e : t = T
  · subst e
    have es : ca_nf (upd ds t (nI (ca_wh ds t (ca_tk j)))) t = ca_wh ds t (ca_tk j) := ca_nfu (by omega)
    refine ⟨⟨j, hj, pk_us⟩, ?_, ?_, ?_, ?_, ?_, ?_⟩
    · rw [ek, pk_us]; exact ha
    · rw [es, pk_us]
    · rw [ek, ca_hgu, hH]; exact hn
    · rw [eh]; exact h6
    · rw [es]; exact wle
    · rw [es]
      unfold ca_sr ca_wh
      rw [ek]
      split
      · rfl
      · have q := ca_spans WD hH (by omega)
        rw [ca_nfn (show t - 1 ≠ t by omega), ca_nfn (show t - 1 - ca_nf ds (t - 1) ≠ t by omega)]
  · have W' := ca_WF_c (K' := upd dk T (nI j)) (A' := upd da T a) (S' := upd ds T (nI (ca_wh ds T (ca_tk j)))) (fun s h => (pk_un (by omega)).symm) (fun s h => (pk_un (by omega)).symm) (fun s h => (pk_un (by omega)).symm) WD
    exact W' t (by omega)
theorem ca_hx {h n : Nat} (l : n ≤ h) : nI h + (1 - nI n) = nI (h - n + 1) := by
  obtain ⟨d, rfl⟩ : ∃ d, h = d + n := ⟨h - n, by omega⟩
  rw [Nat.add_sub_cancel, ← nI_1, ← nI_add]
  generalize nI d = x
  generalize nI n = y
  grind
theorem ca_hy {h n : Nat} (l : n ≤ h) : nI h - nI n + 1 = nI (h - n + 1) := by
  rw [pk_sub l, nI_1]
section
variable {fT fH fP fD fG : Int32} {par kin cl nm mk dk da ds ln tm ks ar sp cn me ho ev li : Nat → Int32} {ofn : Nat → Int64} {T H j : Nat}
theorem ca_x78e {post : Int32 → SX → Prop} {n w m : Nat} {a x5 x6 : Int32} (hT : T < 16) (l : n ≤ H) (h6 : nI n ≤ x6) (hp : post (nI (H - n + 1)) ((nI (T + 1)), (nI (H - n + 1)), fP, fD, fG, par, kin, cl, nm, mk, (upd dk T (nI j)), (upd da T a), (upd ds T (nI w)), ln, tm, ks, ar, sp, cn, me, ho, ev, ofn, li)) : wX_token_78 post (nI j) a (nI n) (nI T) (nI H) fP fD fG par kin cl nm mk dk da ds ln tm ks ar sp cn me ho ev ofn li (m + 1) (nI w) x5 x6 := by
  have vT : vp_in (nI T) 16 := vp_in_nI hT (by decide)
  have cT : (nI T).toNatClampNeg = T := nI_clamp (by omega)
  exact br_t h6 (And.intro vT (nm_r (by rw [cT]) (And.intro vT (nm_r (by rw [cT]) (And.intro vT (nm_r (by rw [cT]) (nm_r (nI_1 T) (nm_r (ca_hx l) hp))))))))
theorem ca_x64 {post : Int32 → SX → Prop} {a : Int32} (WD : ca_WF dk da ds T) (hT : T < 16) (hH : ca_hg (ca_nf dk) T = H) (l : ca_tk j ≤ H) (hp : post (nI (H - ca_tk j + 1)) ((nI (T + 1)), (nI (H - ca_tk j + 1)), fP, fD, fG, par, kin, cl, nm, mk, (upd dk T (nI j)), (upd da T a), (upd ds T (nI (ca_wh ds T (ca_tk j)))), ln, tm, ks, ar, sp, cn, me, ho, ev, ofn, li)) : wX_token_64 post (nI j) a (nI (ca_tk j)) (nI T) (nI H) fP fD fG par kin cl nm mk dk da ds ln tm ks ar sp cn me ho ev ofn li := by
  have tk2 := ca_tk_le j
  refine nm_e (Exists.intro 3 ?_)
  generalize ca_tk j = n at *
  rcases (by omega : n = 0 ∨ n = 1 ∨ n = 2) with rfl | rfl | rfl
  · exact ca_x78e (w := 1) hT l (by decide) hp
  · obtain ⟨t1, s1, e1, _⟩ := ca_spans WD hH l
    have vx : vp_in (nI T - 1) 16 := by rw [ca_pm t1]; exact vp_in_nI (by omega) (by decide)
    have cx : ds (nI T - 1).toNatClampNeg = nI (ca_nf ds (T - 1)) := by rw [ca_pm t1, nI_clamp (by omega)]; exact e1
    refine br_f (by decide) (And.intro vx (nm_r (e' := nI (1 + ca_nf ds (T - 1))) (by rw [cx]; exact nI_add 1 _) (And.intro vx (nm_e (nm_e ?_)))))
    exact ca_x78e (w := 1 + ca_nf ds (T - 1)) hT l (by decide) hp
  · obtain ⟨t1, s1, e1, q⟩ := ca_spans WD hH (by omega)
    obtain ⟨l1, l2, e2⟩ := q l
    have vx : vp_in (nI T - 1) 16 := by rw [ca_pm t1]; exact vp_in_nI (by omega) (by decide)
    have cx : ds (nI T - 1).toNatClampNeg = nI (ca_nf ds (T - 1)) := by rw [ca_pm t1, nI_clamp (by omega)]; exact e1
    refine br_f (by decide) (And.intro vx (nm_r (e' := nI (1 + ca_nf ds (T - 1))) (by rw [cx]; exact nI_add 1 _) (And.intro vx (nm_r (e' := nI (T - 1 - ca_nf ds (T - 1))) (by rw [cx, ca_pm t1, pk_sub l1]) (nm_e ?_)))))
    have vy : vp_in (nI (T - 1 - ca_nf ds (T - 1))) 16 := vp_in_nI (by omega) (by decide)
    have cy : ds (nI (T - 1 - ca_nf ds (T - 1))).toNatClampNeg = nI (ca_nf ds (T - 1 - ca_nf ds (T - 1))) := by rw [nI_clamp (by omega)]; exact e2
    refine br_f (by decide) (And.intro vy (nm_r (e' := nI (1 + ca_nf ds (T - 1) + ca_nf ds (T - 1 - ca_nf ds (T - 1)))) (by rw [cy, nI_add]) (And.intro vy (nm_e (nm_e ?_)))))
    exact ca_x78e (w := 1 + ca_nf ds (T - 1) + ca_nf ds (T - 1 - ca_nf ds (T - 1))) hT l (by decide) hp
end
section
variable {fT fH fP fD fG tp : Int32} {par cl nm mk me dk da ln tm cn ks ar li tr pt : Nat → Int32} {T H j : Nat}
theorem ca_y58 {post : Int32 → SY → Prop} {a : Int32} (hT : T < 16) (hj : j ≤ 13) (l : ca_tk j ≤ H) (hp : post (nI (H - ca_tk j + 1)) (fD, (nI (T + 1)), (nI (H - ca_tk j + 1)), fP, fG, tp, par, cl, nm, mk, me, (upd dk T (nI j)), (upd da T a), ln, tm, cn, ks, ar, li, tr, pt)) : wY_token_58 post (nI j) a fD (nI T) (nI H) fP fG tp par cl nm mk me dk da ln tm cn ks ar li tr pt := by
  have vT : vp_in (nI T) 16 := vp_in_nI hT (by decide)
  have cT : (nI T).toNatClampNeg = T := nI_clamp (by omega)
  refine And.intro vT (nm_r (e' := upd dk T (nI j)) (by rw [cT]) (And.intro vT (nm_r (e' := upd da T a) (by rw [cT]) (nm_r (nI_1 T) ?_))))
  exact ca_ytakes hj (nm_r (ca_hy l) hp)
end
theorem i_vc_token {k : Nat} {u : SX} {v : SY} (I : i_Rel k u v) (hk : k + 5 ≤ 2560) (v1 : Int32) (v2 : Int32) : wpX_token (fun r u' => wpY_token (fun r' v' => r' = r ∧ i_Rel (k + 5) u' v') v v1 v2) u v1 v2 := by
  refine ca_el (Q := fun u v => wpX_token (fun r u' => wpY_token (fun r' v' => r' = r ∧ i_Rel (k + 5) u' v') v v1 v2) u v1 v2) ?_ I
  intro T H P D G par kin cl nm mk dk da ds ln tm ks ar sp cn me ho ev li ofn tp tr pt S
  have K := ca_keep (tm := tm) (cn := cn) (li := li) (tp := tp) (tr := tr) (pt := pt) S
  obtain ⟨hT, hH6, hP, hD, hG, FK, CL, ME, hH, WD, PW, CW⟩ := S
  rcases ca_pc v1 (n := 14) (by omega) with h | ⟨j, hj, rfl⟩
  · unfold wpX_token wpY_token wpY_isToken
    by_cases z : v1 < 0
    · exact br_t z (br_t z (br_t rfl (And.intro rfl K)))
    · have h14 : (14 : Int32) ≤ v1 := h.resolve_left z
      have h13 : (13 : Int32) < v1 := by
        rw [Int32.lt_iff_toInt_lt, show (13 : Int32).toInt = 13 from by decide]
        rw [Int32.le_iff_toInt_le, show (14 : Int32).toInt = 14 from by decide] at h14
        omega
      exact br_f z (br_t h13 (br_f z (br_f (Int32.not_le.mpr h13) (br_t rfl (And.intro rfl K)))))
  · have j0 := nI_pos (n := j) (by omega)
    have j13 : ¬ (13 : Int32) < nI j := nI_nlt (a := 13) (by omega) (by decide)
    unfold wpX_token wpY_token
    refine br_f j0 (br_f j13 (ca_xfits (by omega) ?_))
    refine ca_br _ (fun z => ca_ytok (by omega) (br_t (ca_b_z z) (And.intro rfl K))) (fun z => ?_)
    have nz := ca_b_nz z
    have ha := ca_okAO z
    rcases Nat.lt_or_ge T 16 with t | t
    · have t16 : ¬ nI T = 16 := fun z => by have := (nI_eq (b := 16) (by omega) (by omega)).mp z; omega
      refine br_t (nI_lt (b := 16) t (by decide)) (ca_xtaken (by omega) ?_)
      have tk2 := ca_tk_le j
      rcases Nat.lt_or_ge H (ca_tk j) with l | l
      · have l' := nI_ge l (by omega)
        exact br_f l' (ca_ytok (by omega) (br_f nz (br_f t16 (ca_ytakes (by omega) (br_f l' (And.intro rfl K))))))
      · have l' := nI_le l (by omega)
        refine br_t l' ?_
        by_cases q : ca_tk j = 0 ∧ H = 6
        · have e0 : nI (ca_tk j) = 0 := by rw [q.1]; rfl
          have e6 : nI H = 6 := by rw [q.2]; rfl
          have n6 : ¬ nI H < 6 := by rw [q.2]; decide
          exact br_t e0 (br_f n6 (ca_ytok (by omega) (br_f nz (br_f t16 (ca_ytakes (by omega) (br_t l' (ca_ytakes (by omega) (br_t e0 (br_t e6 (And.intro rfl K))))))))))
        · obtain ⟨w1, WF', eh⟩ := ca_WFs WD t hH (by omega) ha l (by omega)
          have KK : i_Rel (k + 5) ((nI (T + 1)), (nI (H - ca_tk j + 1)), (nI P), (nI D), (nI G), par, kin, cl, nm, mk, (upd dk T (nI j)), (upd da T v2), (upd ds T (nI (ca_wh ds T (ca_tk j)))), ln, tm, ks, ar, sp, cn, me, ho, ev, ofn, li) ((nI D), (nI (T + 1)), (nI (H - ca_tk j + 1)), (nI P), (nI G), tp, par, cl, nm, mk, me, (upd dk T (nI j)), (upd da T v2), ln, tm, cn, ks, ar, li, tr, pt) :=
            ca_mk ⟨by omega, by omega, hP, hD, by omega, FK, CL, ME, eh, WF', PW, CW⟩
          by_cases n0 : ca_tk j = 0
          · have e0 : nI (ca_tk j) = 0 := by rw [n0]; rfl
            have h6 : nI H < 6 := nI_lt (b := 6) (by omega) (by decide)
            have n6 : ¬ nI H = 6 := fun z => by have := (nI_eq (b := 6) (by omega) (by omega)).mp z; omega
            refine br_t e0 (br_t h6 (ca_x64 WD t hH l ?_))
            exact ca_ytok (by omega) (br_f nz (br_f t16 (ca_ytakes (by omega) (br_t l' (ca_ytakes (by omega) (br_t e0 (br_f n6 (ca_y58 t (by omega) l (And.intro rfl KK)))))))))
          · have e0 : ¬ nI (ca_tk j) = 0 := nI_ne0 (by omega) (by omega)
            refine br_f e0 (ca_x64 WD t hH l ?_)
            exact ca_ytok (by omega) (br_f nz (br_f t16 (ca_ytakes (by omega) (br_t l' (ca_ytakes (by omega) (br_f e0 (ca_y58 t (by omega) l (And.intro rfl KK))))))))
    · have e16 : nI T = 16 := by rw [show T = 16 by omega]; rfl
      have n16 : ¬ nI T < 16 := nI_nlt (b := 16) t (by omega)
      exact br_f n16 (ca_ytok (by omega) (br_f nz (br_t e16 (And.intro rfl K))))
end
section
/-! advise -/
def ca_cp (src dst : Nat → Int32) (b : Nat) : Nat → Nat → Int32
  | 0 => dst
  | t + 1 => upd (ca_cp src dst b t) (b + t) (src t)
theorem ca_cp_in {src dst : Nat → Int32} {b : Nat} : ∀ t s, s < t → ca_cp src dst b t (b + s) = src s
  | 0, s, h => absurd h (Nat.not_lt_zero s)
  | t + 1, s, h => by
    show upd (ca_cp src dst b t) (b + t) (src t) (b + s) = src s
    by_cases e : s = t
    · rw [e, pk_us]
    · rw [pk_un (by omega)]; exact ca_cp_in t s (by omega)
theorem ca_cp_out {src dst : Nat → Int32} {b q : Nat} (h : q < b) : ∀ t, ca_cp src dst b t q = dst q
  | 0 => rfl
  | t + 1 => by
    show upd (ca_cp src dst b t) (b + t) (src t) q = dst q
    rw [pk_un (by omega)]; exact ca_cp_out h t
section
variable {fT fH fP fD fG : Int32} {par kin cl nm mk dk da ds ln tm ks ar sp cn me ho ev li : Nat → Int32} {ofn : Nat → Int64} {T P : Nat}
theorem ca_xadv {post : Int32 → SX → Prop} {x : Int32} (hP : P < 6) (hT : T ≤ 16) (hp : post (nI (P + 1) - 1) (0, 0, (nI (P + 1)), fD, fG, par, kin, cl, nm, mk, dk, da, ds, (upd ln P (nI T)), (upd tm P x), (ca_cp dk ks (16 * P) T), (ca_cp da ar (16 * P) T), (ca_cp ds sp (16 * P) T), (upd cn P 0), me, ho, ev, ofn, li)) :
    ∀ d t, t + d = T → ∀ n, d < n → wX_advise_46 post x (nI T) fH (nI P) fD fG n (nI t) par kin cl nm mk dk da ds ln tm (ca_cp dk ks (16 * P) t) (ca_cp da ar (16 * P) t) (ca_cp ds sp (16 * P) t) cn me ho ev ofn li := by
  have vP : vp_in (nI P) 6 := vp_in_nI hP (by decide)
  have cP : (nI P).toNatClampNeg = P := nI_clamp (by omega)
  intro d
  induction d with
  | zero =>
    intro t ht n hn
    obtain ⟨n, rfl⟩ : ∃ k, n = k + 1 := ⟨n - 1, by omega⟩
    have e : t = T := by omega
    subst e
    exact br_t (nI_le (Nat.le_refl _) (by omega)) (And.intro vP (nm_r (e' := upd ln P (nI t)) (by rw [cP]) (And.intro vP (nm_r (e' := upd tm P x) (by rw [cP]) (And.intro vP (nm_r (e' := upd cn P 0) (by rw [cP]) (nm_r (nI_1 P) hp)))))))
  | succ d ih =>
    intro t ht n hn
    obtain ⟨n, rfl⟩ : ∃ k, n = k + 1 := ⟨n - 1, by omega⟩
    have vt : vp_in (nI t) 16 := vp_in_nI (by omega) (by decide)
    have ct : (nI t).toNatClampNeg = t := nI_clamp (by omega)
    have ei : (16 : Int32) * nI P + nI t = nI (16 * P + t) := ca_i16 P t
    have vi : vp_in ((16 : Int32) * nI P + nI t) 96 := by rw [ei]; exact vp_in_nI (by omega) (by decide)
    have ci : ((16 : Int32) * nI P + nI t).toNatClampNeg = 16 * P + t := by rw [ei]; exact nI_clamp (by omega)
    refine br_f (nI_ge (by omega) (by omega)) (And.intro vt (And.intro vi (nm_r (e' := ca_cp dk ks (16 * P) (t + 1)) (by rw [ci, ct]; rfl) (And.intro vt (And.intro vi (nm_r (e' := ca_cp da ar (16 * P) (t + 1)) (by rw [ci, ct]; rfl) (And.intro vt (And.intro vi (nm_r (e' := ca_cp ds sp (16 * P) (t + 1)) (by rw [ci, ct]; rfl) (nm_r (nI_1 t) ?_))))))))))
    exact ih (t + 1) (by omega) n (by omega)
end
section
variable {fT fH fP fD fG tp : Int32} {par cl nm mk me dk da ln tm cn ks ar li tr pt : Nat → Int32} {T P : Nat}
theorem ca_yadv {post : Int32 → SY → Prop} {x : Int32} (hP : P < 6) (hT : T ≤ 16) (hp : post (nI (P + 1) - 1) (fD, 0, 0, (nI (P + 1)), fG, tp, par, cl, nm, mk, me, dk, da, (upd ln P (nI T)), (upd tm P x), (upd cn P 0), (ca_cp dk ks (16 * P) T), (ca_cp da ar (16 * P) T), li, tr, pt)) :
    ∀ d t, t + d = T → ∀ n, d < n → wY_advise_46 post x fD (nI T) fH (nI P) fG tp n (nI t) par cl nm mk me dk da ln tm cn (ca_cp dk ks (16 * P) t) (ca_cp da ar (16 * P) t) li tr pt := by
  have vP : vp_in (nI P) 6 := vp_in_nI hP (by decide)
  have cP : (nI P).toNatClampNeg = P := nI_clamp (by omega)
  intro d
  induction d with
  | zero =>
    intro t ht n hn
    obtain ⟨n, rfl⟩ : ∃ k, n = k + 1 := ⟨n - 1, by omega⟩
    have e : t = T := by omega
    subst e
    exact br_t (nI_le (Nat.le_refl _) (by omega)) (And.intro vP (nm_r (e' := upd ln P (nI t)) (by rw [cP]) (And.intro vP (nm_r (e' := upd tm P x) (by rw [cP]) (And.intro vP (nm_r (e' := upd cn P 0) (by rw [cP]) (nm_r (nI_1 P) hp)))))))
  | succ d ih =>
    intro t ht n hn
    obtain ⟨n, rfl⟩ : ∃ k, n = k + 1 := ⟨n - 1, by omega⟩
    have vt : vp_in (nI t) 16 := vp_in_nI (by omega) (by decide)
    have ct : (nI t).toNatClampNeg = t := nI_clamp (by omega)
    have ei : (16 : Int32) * nI P + nI t = nI (16 * P + t) := ca_i16 P t
    have vi : vp_in ((16 : Int32) * nI P + nI t) 96 := by rw [ei]; exact vp_in_nI (by omega) (by decide)
    have ci : ((16 : Int32) * nI P + nI t).toNatClampNeg = 16 * P + t := by rw [ei]; exact nI_clamp (by omega)
    refine br_f (nI_ge (by omega) (by omega)) (And.intro vt (And.intro vi (nm_r (e' := ca_cp dk ks (16 * P) (t + 1)) (by rw [ci, ct]; rfl) (And.intro vt (And.intro vi (nm_r (e' := ca_cp da ar (16 * P) (t + 1)) (by rw [ci, ct]; rfl) (nm_r (nI_1 t) ?_)))))))
    exact ih (t + 1) (by omega) n (by omega)
theorem ca_yadv11 {post : Int32 → SY → Prop} {b : Nat} (hb : b < 2) (h : wY_advise_11 post (nI b) fD fT fH fP fG tp par cl nm mk me dk da ln tm cn ks ar li tr pt) : wpY_advise post (fD, fT, fH, fP, fG, tp, par, cl, nm, mk, me, dk, da, ln, tm, cn, ks, ar, li, tr, pt) (nI b) := by
  rcases (by omega : b = 0 ∨ b = 1) with rfl | rfl
  · exact br_t rfl h
  · exact br_f (by decide) (br_t rfl h)
end
theorem ca_PWa {ln ks ar sp dk da ds : Nat → Int32} {T P : Nat} (hP : P < 6) (h1 : 1 ≤ T) (hT : T ≤ 16) (WD : ca_WF dk da ds T) (PW : ca_PW ln ks ar sp P) : ca_PW (upd ln P (nI T)) (ca_cp dk ks (16 * P) T) (ca_cp da ar (16 * P) T) (ca_cp ds sp (16 * P) T) (P + 1) := by
  intro p hp
  by_cases e : p = P
  · subst e
    have en : ca_nf (upd ln p (nI T)) p = T := ca_nfu (by omega)
    rw [en]
    refine ⟨pk_us, h1, hT, ca_WF_c (fun s h => ?_) (fun s h => ?_) (fun s h => ?_) WD⟩
    · exact (ca_cp_in T s h).symm
    · exact (ca_cp_in T s h).symm
    · exact (ca_cp_in T s h).symm
  · obtain ⟨a, b, c, d⟩ := PW p (by omega)
    have en : ca_nf (upd ln P (nI T)) p = ca_nf ln p := ca_nfn e
    rw [en, pk_un e]
    refine ⟨a, b, c, ca_WF_c (fun s h => ?_) (fun s h => ?_) (fun s h => ?_) d⟩
    · exact (ca_cp_out (b := 16 * P) (q := 16 * p + s) (by omega) T).symm
    · exact (ca_cp_out (b := 16 * P) (q := 16 * p + s) (by omega) T).symm
    · exact (ca_cp_out (b := 16 * P) (q := 16 * p + s) (by omega) T).symm
theorem i_vc_advise {k : Nat} {u : SX} {v : SY} (I : i_Rel k u v) (hk : k + 5 ≤ 2560) (v1 : Int32) : wpX_advise (fun r u' => wpY_advise (fun r' v' => r' = r ∧ i_Rel (k + 5) u' v') v v1) u v1 := by
  refine ca_el (Q := fun u v => wpX_advise (fun r u' => wpY_advise (fun r' v' => r' = r ∧ i_Rel (k + 5) u' v') v v1) u v1) ?_ I
  intro T H P D G par kin cl nm mk dk da ds ln tm ks ar sp cn me ho ev li ofn tp tr pt S
  have K := ca_keep (tm := tm) (cn := cn) (li := li) (tp := tp) (tr := tr) (pt := pt) S
  obtain ⟨hT, hH6, hP, hD, hG, FK, CL, ME, hH, WD, PW, CW⟩ := S
  rcases ca_pc v1 (n := 2) (by omega) with h | ⟨b, hb, rfl⟩
  · unfold wpX_advise wpY_advise
    by_cases z : v1 < 0
    · have y0 : ¬ v1 = 0 := fun e => by rw [e] at z; exact absurd z (by decide)
      have y1 : ¬ v1 = 1 := fun e => by rw [e] at z; exact absurd z (by decide)
      exact br_t z (br_f y0 (br_f y1 (And.intro rfl K)))
    · have h2 : (2 : Int32) ≤ v1 := h.resolve_left z
      have y0 : ¬ v1 = 0 := fun e => by rw [e] at h2; exact absurd h2 (by decide)
      have y1 : ¬ v1 = 1 := fun e => by rw [e] at h2; exact absurd h2 (by decide)
      have l1 : ¬ v1 ≤ 1 := by
        rw [Int32.le_iff_toInt_le, show (1 : Int32).toInt = 1 from by decide]
        rw [Int32.le_iff_toInt_le, show (2 : Int32).toInt = 2 from by decide] at h2
        omega
      exact br_f z (br_f l1 (br_f y0 (br_f y1 (And.intro rfl K))))
  · have b0 := nI_pos (n := b) (by omega)
    have b1 : nI b ≤ 1 := nI_le (b := 1) (by omega) (by decide)
    refine br_f b0 (br_t b1 ?_)
    by_cases q1 : H = 1
    · have e1 : nI H = 1 := by rw [q1]; rfl
      refine br_t e1 ?_
      rcases Nat.lt_or_ge P 6 with l | l
      · have p6 : ¬ nI P = 6 := fun z => by have := (nI_eq (b := 6) (by omega) (by omega)).mp z; omega
        refine br_t (nI_lt (b := 6) l (by decide)) ?_
        rcases Nat.eq_zero_or_pos D with d | d
        · subst d
          have t1 : 1 ≤ T := ca_hg_zero (kd := ca_nf dk) (by omega)
          refine br_t (by decide) (Exists.intro (T + 1) (ca_xadv l hT ?_ T 0 (Nat.zero_add T) (T + 1) (Nat.lt_succ_self T)))
          refine ca_yadv11 hb (br_t e1 (br_f p6 (br_t (by decide) (Exists.intro (T + 1) (ca_yadv l hT ?_ T 0 (Nat.zero_add T) (T + 1) (Nat.lt_succ_self T))))))
          exact And.intro rfl (ca_mk (T := 0) (H := 0) (P := P + 1) (D := 0) ⟨by omega, by omega, by omega, by omega, by omega, FK, CL, ca_ME0, rfl, fun t h => absurd h (Nat.not_lt_zero t), ca_PWa l t1 hT WD PW, ca_CW0⟩)
        · have nd := nI_nle d (by omega)
          exact br_f nd (ca_yadv11 hb (br_t e1 (br_f p6 (br_f nd (And.intro rfl K)))))
      · have e6 : nI P = 6 := by rw [show P = 6 by omega]; rfl
        exact br_f (nI_nlt (b := 6) l (by omega)) (ca_yadv11 hb (br_t e1 (br_t e6 (And.intro rfl K))))
    · have e1 : ¬ nI H = 1 := fun z => by have := (nI_eq (b := 1) (by omega) (by omega)).mp z; omega
      exact br_f e1 (ca_yadv11 hb (br_f e1 (And.intro rfl K)))
end
section
/-! call and giveBack -/
section
variable {fT fH : Int32} {par kin cl nm mk dk da ds ln tm ks ar sp me : Nat → Int32} {P D : Nat}
theorem ca_callL (FK : ca_FK par kin) (CL : ca_CL cl) (hP : P ≤ 6) (hD : D < 20) (ME : ca_ME me (D + 1)) (PW : ca_PW ln ks ar sp P) :
    ∀ d p, p + d = P → ∀ (x2 : Int32) (G : Nat) (cn li ho ev : Nat → Int32) (ofn : Nat → Int64) (tp : Int32) (tr pt : Nat → Int32), G + d < 2 ^ 29 → ca_CW kin cl nm mk me ln ks ar sp ho ev ofn P D → (∀ q, q < p → ca_CP kin cl nm mk me ln ks ar sp ho ev ofn q D) →
    ∃ (x2' : Int32) (G' : Nat) (cn' li' ho' ev' : Nat → Int32) (ofn' : Nat → Int64) (tp' : Int32) (tr' pt' : Nat → Int32), G' ≤ G + d ∧ ca_CW kin cl nm mk me ln ks ar sp ho' ev' ofn' P (D + 1) ∧
    (∀ post : Int32 → SX → Prop, post x2' (fT, fH, (nI P), (nI (D + 1)), (nI G'), par, kin, cl, nm, mk, dk, da, ds, ln, tm, ks, ar, sp, cn', me, ho', ev', ofn', li') → ∀ n, d < n → wX_call_35 post n x2 (nI p) fT fH (nI P) (nI D) (nI G) par kin cl nm mk dk da ds ln tm ks ar sp cn me ho ev ofn li) ∧
    (∀ post : Int32 → SY → Prop, post x2' ((nI (D + 1)), fT, fH, (nI P), (nI G'), tp', par, cl, nm, mk, me, dk, da, ln, tm, cn', ks, ar, li', tr', pt') → ∀ n, d < n → wY_call_48 post n x2 (nI p) (nI (D + 1)) fT fH (nI P) (nI G) tp par cl nm mk me dk da ln tm cn ks ar li tr pt) := by
  intro d
  induction d with
  | zero =>
    intro p hp x2 G cn li ho ev ofn tp tr pt hG CW hC
    refine ⟨x2, G, cn, li, ho, ev, ofn, tp, tr, pt, by omega, fun q i hq hi => ?_, fun post h n hn => ?_, fun post h n hn => ?_⟩
    · by_cases e : i = D
      · subst e; exact hC q (by omega)
      · exact CW q i hq (by omega)
    · obtain ⟨n, rfl⟩ : ∃ k, n = k + 1 := ⟨n - 1, by omega⟩
      exact br_t (nI_le (by omega) (by omega)) (nm_r (nI_1 D) h)
    · obtain ⟨n, rfl⟩ : ∃ k, n = k + 1 := ⟨n - 1, by omega⟩
      exact br_t (nI_le (by omega) (by omega)) h
  | succ d ih =>
    intro p hp x2 G cn li ho ev ofn tp tr pt hG CW hC
    have hpP : p < P := by omega
    have vp : vp_in (nI p) 6 := vp_in_nI (by omega) (by decide)
    have cp : (nI p).toNatClampNeg = p := nI_clamp (by omega)
    obtain ⟨h, e, o, PV, WX⟩ := ca_xworkP (fT := fT) (fH := fH) (fP := nI P) (fD := nI D) (fG := nI G) (par := par) (dk := dk) (da := da) (ds := ds) (tm := tm) (cn := cn) (li := li) CL hP hpP hD ME PW CW
    obtain ⟨tp1, tr1, pt1, WY⟩ := ca_ygive (fT := fT) (fH := fH) (fP := nI P) (dk := dk) (da := da) (tm := tm) (cn := cn) (li := li) (tp := tp) (tr := tr) (pt := pt) (nm := nm) (mk := mk) FK CL (0 : Int32) hP hpP hD (show G < 2 ^ 30 by omega) ME PW
    have CW1 := ca_CW_u (p := p) (h := h) (e := e) (o := o) (by omega) CW
    have CP1 : ca_CP kin cl nm mk me ln ks ar sp (upd ho (21 * p + D) h) (upd ev (21 * p + D) e) (vp_updL ofn (21 * p + D) o) p D := ca_CP_s PV
    have hC1 : ∀ q, q < p + 1 → ca_CP kin cl nm mk me ln ks ar sp (upd ho (21 * p + D) h) (upd ev (21 * p + D) e) (vp_updL ofn (21 * p + D) o) q D := fun q hq => by
      by_cases z : q = p
      · rw [z]; exact CP1
      · exact ca_CP_u (by omega) (hC q (by omega))
    cases good : (decide (tm p = 0) && ca_VP kin cl nm mk me ks ar sp p (ca_nf ln p - 1) D) with
    | false =>
      obtain ⟨x2', G', cn', li', ho', ev', ofn', tp', tr', pt', g1, cw, IX, IY⟩ := ih (p + 1) (by omega) x2 G cn li _ _ _ tp1 tr1 pt1 (by omega) CW1 hC1
      refine ⟨x2', G', cn', li', ho', ev', ofn', tp', tr', pt', by omega, cw, fun post hq n hn => ?_, fun post hq n hn => ?_⟩
      · obtain ⟨n, rfl⟩ : ∃ k, n = k + 1 := ⟨n - 1, by omega⟩
        have J := IX post hq n (by omega)
        refine br_f (nI_ge (by omega) (by omega)) (WX _ (And.intro vp ?_))
        rw [cp]
        by_cases e0 : tm p = 0
        · rw [decide_eq_true e0, Bool.true_and] at good
          refine br_t e0 (ca_xwholeP hP hpP hD PW CP1 ?_)
          rw [good]
          exact br_t rfl (br_t rfl (nm_r (nI_1 p) J))
        · exact br_f e0 (br_t rfl (nm_r (nI_1 p) J))
      · obtain ⟨n, rfl⟩ : ∃ k, n = k + 1 := ⟨n - 1, by omega⟩
        have J := IY post hq n (by omega)
        exact br_f (nI_ge (by omega) (by omega)) (WY _ (fun _ => br_t rfl (nm_r (nI_1 p) J)) (fun z => absurd (good.symm.trans z) (by decide)))
    | true =>
      obtain ⟨x2', G', cn', li', ho', ev', ofn', tp', tr', pt', g1, cw, IX, IY⟩ := ih (p + 1) (by omega) (x2 + 1) (G + 1) (upd cn p (cn p + 1)) (upd li (G % 64) (nI p)) _ _ _ tp1 tr1 pt1 (by omega) CW1 hC1
      refine ⟨x2', G', cn', li', ho', ev', ofn', tp', tr', pt', by omega, cw, fun post hq n hn => ?_, fun post hq n hn => ?_⟩
      · obtain ⟨n, rfl⟩ : ∃ k, n = k + 1 := ⟨n - 1, by omega⟩
        have J := IX post hq n (by omega)
        rw [Bool.and_eq_true, decide_eq_true_eq] at good
        refine br_f (nI_ge (by omega) (by omega)) (WX _ (And.intro vp ?_))
        rw [cp]
        refine br_t good.1 (ca_xwholeP hP hpP hD PW CP1 ?_)
        rw [good.2]
        exact br_f ca_n1 (br_f ca_n1 (ca_xgive (by omega) (by omega) (nm_e (nm_r (nI_1 p) J))))
      · obtain ⟨n, rfl⟩ : ∃ k, n = k + 1 := ⟨n - 1, by omega⟩
        have J := IY post hq n (by omega)
        exact br_f (nI_ge (by omega) (by omega)) (WY _ (fun z => absurd (good.symm.trans z) (by decide)) (fun _ => br_f ca_n1 (nm_e (nm_r (nI_1 p) J))))
theorem ca_backL {ho ev : Nat → Int32} {ofn : Nat → Int64} (FK : ca_FK par kin) (CL : ca_CL cl) (hP : P ≤ 6) (hD : D < 20) (ME : ca_ME me (D + 1)) (PW : ca_PW ln ks ar sp P) (hC : ∀ q, q < P → ca_CP kin cl nm mk me ln ks ar sp ho ev ofn q D) :
    ∀ m, m ≤ P → ∀ (x1 : Int32) (G : Nat) (cn li : Nat → Int32) (tp : Int32) (tr pt : Nat → Int32), G + m < 2 ^ 29 →
    ∃ (x1' : Int32) (G' : Nat) (cn' li' : Nat → Int32) (tp' : Int32) (tr' pt' : Nat → Int32), G' ≤ G + m ∧
    (∀ post : Int32 → SX → Prop, post x1' (fT, fH, (nI P), (nI D), (nI G'), par, kin, cl, nm, mk, dk, da, ds, ln, tm, ks, ar, sp, cn', me, ho, ev, ofn, li') → ∀ n, m < n → wX_giveBack_28 post n x1 (nI m - 1) fT fH (nI P) (nI D) (nI G) par kin cl nm mk dk da ds ln tm ks ar sp cn me ho ev ofn li) ∧
    (∀ post : Int32 → SY → Prop, post x1' ((nI D), fT, fH, (nI P), (nI G'), tp', par, cl, nm, mk, me, dk, da, ln, tm, cn', ks, ar, li', tr', pt') → ∀ n, m < n → wY_giveBack_18 post n x1 (nI m - 1) (nI (D + 1)) fT fH (nI P) (nI G) tp par cl nm mk me dk da ln tm cn ks ar li tr pt) := by
  intro m
  induction m with
  | zero =>
    intro _ x1 G cn li tp tr pt hG
    refine ⟨x1, G, cn, li, tp, tr, pt, by omega, fun post h n hn => ?_, fun post h n hn => ?_⟩
    · obtain ⟨n, rfl⟩ : ∃ k, n = k + 1 := ⟨n - 1, by omega⟩
      exact br_t (by decide) h
    · obtain ⟨n, rfl⟩ : ∃ k, n = k + 1 := ⟨n - 1, by omega⟩
      exact br_t (by decide) (nm_r (nI_pred D) h)
  | succ p ih =>
    intro hpP x1 G cn li tp tr pt hG
    have hpP : p < P := by omega
    have vp : vp_in (nI p) 6 := vp_in_nI (by omega) (by decide)
    have cp : (nI p).toNatClampNeg = p := nI_clamp (by omega)
    have n0 := nI_pos (n := p) (by omega)
    obtain ⟨tp1, tr1, pt1, WY⟩ := ca_ygive (fT := fT) (fH := fH) (fP := nI P) (dk := dk) (da := da) (tm := tm) (cn := cn) (li := li) (tp := tp) (tr := tr) (pt := pt) (nm := nm) (mk := mk) FK CL (1 : Int32) hP hpP hD (show G < 2 ^ 30 by omega) ME PW
    cases good : (decide (tm p = 1) && ca_VP kin cl nm mk me ks ar sp p (ca_nf ln p - 1) D) with
    | false =>
      obtain ⟨x1', G', cn', li', tp', tr', pt', g1, IX, IY⟩ := ih (by omega) x1 G cn li tp1 tr1 pt1 (by omega)
      refine ⟨x1', G', cn', li', tp', tr', pt', by omega, fun post hq n hn => ?_, fun post hq n hn => ?_⟩
      · obtain ⟨n, rfl⟩ : ∃ k, n = k + 1 := ⟨n - 1, by omega⟩
        have J := IX post hq n (by omega)
        rw [nI_pred]
        refine br_f n0 (And.intro vp ?_)
        rw [cp]
        by_cases e0 : tm p = 1
        · rw [decide_eq_true e0, Bool.true_and] at good
          refine br_t e0 (ca_xwholeP hP hpP hD PW (hC p hpP) ?_)
          rw [good]
          exact br_t rfl (br_t rfl (nm_r (ca_am p) J))
        · exact br_f e0 (br_t rfl (nm_r (ca_am p) J))
      · obtain ⟨n, rfl⟩ : ∃ k, n = k + 1 := ⟨n - 1, by omega⟩
        have J := IY post hq n (by omega)
        rw [nI_pred]
        exact br_f n0 (WY _ (fun _ => br_t rfl (nm_r (ca_am p) J)) (fun z => absurd (good.symm.trans z) (by decide)))
    | true =>
      obtain ⟨x1', G', cn', li', tp', tr', pt', g1, IX, IY⟩ := ih (by omega) (x1 + 1) (G + 1) (upd cn p (cn p + 1)) (upd li (G % 64) (nI p)) tp1 tr1 pt1 (by omega)
      refine ⟨x1', G', cn', li', tp', tr', pt', by omega, fun post hq n hn => ?_, fun post hq n hn => ?_⟩
      · obtain ⟨n, rfl⟩ : ∃ k, n = k + 1 := ⟨n - 1, by omega⟩
        have J := IX post hq n (by omega)
        rw [Bool.and_eq_true, decide_eq_true_eq] at good
        rw [nI_pred]
        refine br_f n0 (And.intro vp ?_)
        rw [cp]
        refine br_t good.1 (ca_xwholeP hP hpP hD PW (hC p hpP) ?_)
        rw [good.2]
        exact br_f ca_n1 (br_f ca_n1 (ca_xgive (by omega) (by omega) (nm_e (nm_r (ca_am p) J))))
      · obtain ⟨n, rfl⟩ : ∃ k, n = k + 1 := ⟨n - 1, by omega⟩
        have J := IY post hq n (by omega)
        rw [nI_pred]
        exact br_f n0 (WY _ (fun z => absurd (good.symm.trans z) (by decide)) (fun _ => br_f ca_n1 (nm_e (nm_r (ca_am p) J))))
end
theorem i_vc_call {k : Nat} {u : SX} {v : SY} (I : i_Rel k u v) (hk : k + 5 ≤ 2560) (v1 : Int32) : wpX_call (fun r u' => wpY_call (fun r' v' => r' = r ∧ i_Rel (k + 5) u' v') v v1) u v1 := by
  refine ca_el (Q := fun u v => wpX_call (fun r u' => wpY_call (fun r' v' => r' = r ∧ i_Rel (k + 5) u' v') v v1) u v1) ?_ I
  intro T H P D G par kin cl nm mk dk da ds ln tm ks ar sp cn me ho ev li ofn tp tr pt S
  have K := ca_keep (tm := tm) (cn := cn) (li := li) (tp := tp) (tr := tr) (pt := pt) S
  obtain ⟨hT, hH6, hP, hD, hG, FK, CL, ME, hH, WD, PW, CW⟩ := S
  rcases ca_pc v1 (n := 16) (by omega) with h | ⟨m, hm, rfl⟩
  · unfold wpX_call wpY_call
    refine ca_xisM0 h (br_t rfl ?_)
    by_cases z : v1 < 0
    · exact br_t z (And.intro rfl K)
    · exact br_f z (br_f (ca_1516 (h.resolve_left z)) (And.intro rfl K))
  · have m0 := nI_pos (n := m) (by omega)
    have m15 : nI m ≤ 15 := nI_le (b := 15) (by omega) (by decide)
    unfold wpX_call wpY_call
    refine ca_xisM1 hm (br_f ca_n1 ?_)
    rcases Nat.lt_or_ge D 20 with d | d
    · have d20 : ¬ nI D = 20 := fun z => by have := (nI_eq (b := 20) (by omega) (by omega)).mp z; omega
      have cD : (nI D).toNatClampNeg = D := nI_clamp (by omega)
      have CW' := ca_CW_me (me' := upd me D (nI m)) (fun j hj => (pk_un (by omega)).symm) CW
      obtain ⟨x2', G', cn', li', ho', ev', ofn', tp', tr', pt', g1, cw, IX, IY⟩ := ca_callL (fT := nI T) (fH := nI H) (par := par) (dk := dk) (da := da) (ds := ds) (tm := tm) FK CL hP d (ca_ME_u hm ME) PW P 0 (Nat.zero_add P) 0 G cn li ho ev ofn tp tr pt (by omega) CW' (fun q h => absurd h (Nat.not_lt_zero q))
      refine br_t (nI_lt (b := 20) d (by decide)) (And.intro (vp_in_nI (by omega) (by decide)) (nm_r (e' := upd me D (nI m)) (by rw [cD]) (Exists.intro (P + 1) (IX _ ?_ (P + 1) (by omega)))))
      refine br_f m0 (br_t m15 (br_f d20 (And.intro (vp_in_nI (by omega) (by decide)) (nm_r (e' := upd me D (nI m)) (by rw [cD]) (nm_r (nI_1 D) (Exists.intro (P + 1) (IY _ ?_ (P + 1) (by omega))))))))
      exact And.intro rfl (ca_mk ⟨hT, hH6, hP, by omega, by omega, FK, CL, ca_ME_u hm ME, hH, WD, PW, cw⟩)
    · have e20 : nI D = 20 := by rw [show D = 20 by omega]; rfl
      exact br_f (nI_nlt (b := 20) d (by omega)) (br_f m0 (br_t m15 (br_t e20 (And.intro rfl K))))
theorem i_vc_giveBack {k : Nat} {u : SX} {v : SY} (I : i_Rel k u v) (hk : k + 5 ≤ 2560) : wpX_giveBack (fun r u' => wpY_giveBack (fun r' v' => r' = r ∧ i_Rel (k + 5) u' v') v) u := by
  refine ca_el (Q := fun u v => wpX_giveBack (fun r u' => wpY_giveBack (fun r' v' => r' = r ∧ i_Rel (k + 5) u' v') v) u) ?_ I
  intro T H P D G par kin cl nm mk dk da ds ln tm ks ar sp cn me ho ev li ofn tp tr pt S
  have K := ca_keep (tm := tm) (cn := cn) (li := li) (tp := tp) (tr := tr) (pt := pt) S
  obtain ⟨hT, hH6, hP, hD, hG, FK, CL, ME, hH, WD, PW, CW⟩ := S
  rcases Nat.eq_zero_or_pos D with d | d
  · subst d
    exact br_t rfl (br_t rfl (And.intro rfl K))
  · obtain ⟨E, rfl⟩ : ∃ E, D = E + 1 := ⟨D - 1, by omega⟩
    have nz := nI_ne0 d (by omega)
    obtain ⟨x1', G', cn', li', tp', tr', pt', g1, IX, IY⟩ := ca_backL (fT := nI T) (fH := nI H) (par := par) (dk := dk) (da := da) (ds := ds) (tm := tm) (ho := ho) (ev := ev) (ofn := ofn) FK CL hP (show E < 20 by omega) ME PW (fun q hq => CW q E hq (by omega)) P (Nat.le_refl P) 0 G cn li tp tr pt (by omega)
    refine br_f nz (nm_r (nI_pred E) (nm_e (Exists.intro (P + 1) (IX _ ?_ (P + 1) (by omega)))))
    refine br_f nz (nm_e (Exists.intro (P + 1) (IY _ ?_ (P + 1) (by omega))))
    exact And.intro rfl (ca_mk ⟨hT, hH6, hP, by omega, by omega, FK, CL, fun j hj => ME j (by omega), hH, WD, PW, fun p i hp hi => CW p i hp (by omega)⟩)
end
section
/-! wouldHold and would -/
section
variable {fT fH fG : Int32} {par kin cl nm mk dk da ds ln tm ks ar sp cn li : Nat → Int32} {P D p : Nat}
theorem ca_tryB {me ho ev : Nat → Int32} {ofn : Nat → Int64} {tp : Int32} {tr pt : Nat → Int32} {m : Nat} (FK : ca_FK par kin) (CL : ca_CL cl) (hP : P ≤ 6) (hp : p < P) (hD : D < 20) (hm : m < 16) (ME : ca_ME me D) (PW : ca_PW ln ks ar sp P) (CW : ca_CW kin cl nm mk me ln ks ar sp ho ev ofn P D) :
    ∃ (b : Bool) (ho' ev' : Nat → Int32) (ofn' : Nat → Int64) (tp' : Int32) (tr' pt' : Nat → Int32), ca_ME (upd me D (nI m)) D ∧ ca_CW kin cl nm mk (upd me D (nI m)) ln ks ar sp ho' ev' ofn' P D ∧
    (∀ post : Int32 → SX → Prop, post (ca_b b) (fT, fH, (nI P), (nI D), fG, par, kin, cl, nm, mk, dk, da, ds, ln, tm, ks, ar, sp, cn, (upd me D (nI m)), ho', ev', ofn', li) → wpX_tried post (fT, fH, (nI P), (nI D), fG, par, kin, cl, nm, mk, dk, da, ds, ln, tm, ks, ar, sp, cn, me, ho, ev, ofn, li) (nI p) (nI m)) ∧
    (∀ post : Int32 → SY → Prop, post (ca_b b) ((nI D), fT, fH, (nI P), fG, tp', par, cl, nm, mk, (upd me D (nI m)), dk, da, ln, tm, cn, ks, ar, li, tr', pt') → wpY_isTrue post ((nI D), fT, fH, (nI P), fG, tp, par, cl, nm, mk, (upd me D (nI m)), dk, da, ln, tm, cn, ks, ar, li, tr, pt) (nI p) (nI D)) := by
  obtain ⟨h, e, o, WX⟩ := ca_xtried (fT := fT) (fH := fH) (fP := nI P) (fG := fG) (par := par) (dk := dk) (da := da) (ds := ds) (tm := tm) (cn := cn) (li := li) CL hP hp hD hm ME PW CW
  obtain ⟨tp', tr', pt', WY⟩ := ca_ytrueP (fD := nI D) (fT := fT) (fH := fH) (fP := nI P) (fG := fG) (tp := tp) (tr := tr) (pt := pt) (dk := dk) (da := da) (tm := tm) (cn := cn) (li := li) (nm := nm) (mk := mk) FK CL hP hp hD (ca_ME_u hm ME) PW
  have CW' := ca_CW_me (me' := upd me D (nI m)) (fun j hj => (pk_un (by omega)).symm) CW
  exact ⟨_, _, _, _, tp', tr', pt', fun j hj => ca_ME_u hm ME j (by omega), ca_CW_u (p := p) (by omega) CW', WX, WY⟩
theorem ca_wouldL (FK : ca_FK par kin) (CL : ca_CL cl) (hP : P ≤ 6) (hp : p < P) (hD : D < 20) (PW : ca_PW ln ks ar sp P) :
    ∀ d m, m + d = 16 → ∀ (x2 : Int32) (me ho ev : Nat → Int32) (ofn : Nat → Int64) (tp : Int32) (tr pt : Nat → Int32), ca_ME me D → ca_CW kin cl nm mk me ln ks ar sp ho ev ofn P D →
    ∃ (x2' : Int32) (me' ho' ev' : Nat → Int32) (ofn' : Nat → Int64) (tp' : Int32) (tr' pt' : Nat → Int32), ca_ME me' D ∧ ca_CW kin cl nm mk me' ln ks ar sp ho' ev' ofn' P D ∧
    (∀ post : Int32 → SX → Prop, post x2' (fT, fH, (nI P), (nI D), fG, par, kin, cl, nm, mk, dk, da, ds, ln, tm, ks, ar, sp, cn, me', ho', ev', ofn', li) → ∀ n, d < n → wX_would_26 post (nI p) n x2 (nI m) fT fH (nI P) (nI D) fG par kin cl nm mk dk da ds ln tm ks ar sp cn me ho ev ofn li) ∧
    (∀ post : Int32 → SY → Prop, post x2' ((nI D), fT, fH, (nI P), fG, tp', par, cl, nm, mk, me', dk, da, ln, tm, cn, ks, ar, li, tr', pt') → ∀ n, d < n → wY_would_26 post (nI p) n x2 (nI m) (nI D) fT fH (nI P) fG tp par cl nm mk me dk da ln tm cn ks ar li tr pt) := by
  intro d
  induction d with
  | zero =>
    intro m hm x2 me ho ev ofn tp tr pt ME CW
    refine ⟨x2, me, ho, ev, ofn, tp, tr, pt, ME, CW, fun post h n hn => ?_, fun post h n hn => ?_⟩
    · obtain ⟨n, rfl⟩ : ∃ k, n = k + 1 := ⟨n - 1, by omega⟩
      exact br_t (nI_le (a := 16) (by omega) (by omega)) h
    · obtain ⟨n, rfl⟩ : ∃ k, n = k + 1 := ⟨n - 1, by omega⟩
      exact br_t (nI_le (a := 16) (by omega) (by omega)) h
  | succ d ih =>
    intro m hm x2 me ho ev ofn tp tr pt ME CW
    obtain ⟨b, ho1, ev1, ofn1, tp1, tr1, pt1, ME1, CW1, WX, WY⟩ := ca_tryB (fT := fT) (fH := fH) (fG := fG) (par := par) (dk := dk) (da := da) (ds := ds) (tm := tm) (cn := cn) (li := li) (tp := tp) (tr := tr) (pt := pt) (m := m) FK CL hP hp hD (by omega) ME PW CW
    have n16 : ¬ (16 : Int32) ≤ nI m := nI_ge (b := 16) (by omega) (by decide)
    obtain ⟨x2', me', ho', ev', ofn', tp', tr', pt', ME', CW', IX, IY⟩ := ih (m + 1) (by omega) (if b then x2 ||| ((1 : Int32) <<< (nI m &&& 31)) else x2) (upd me D (nI m)) ho1 ev1 ofn1 tp1 tr1 pt1 ME1 CW1
    refine ⟨x2', me', ho', ev', ofn', tp', tr', pt', ME', CW', fun post hq n hn => ?_, fun post hq n hn => ?_⟩
    · obtain ⟨n, rfl⟩ : ∃ k, n = k + 1 := ⟨n - 1, by omega⟩
      have J := IX post hq n (by omega)
      refine br_f n16 (WX _ ?_)
      cases b with
      | false => exact br_t rfl (nm_r (ca_or0 x2) (nm_r (nI_1 m) J))
      | true => exact br_f ca_n1 (nm_e (nm_r (nI_1 m) J))
    · obtain ⟨n, rfl⟩ : ∃ k, n = k + 1 := ⟨n - 1, by omega⟩
      have J := IY post hq n (by omega)
      refine br_f n16 (And.intro (vp_in_nI hD (by decide)) (nm_r (e' := upd me D (nI m)) (by rw [nI_clamp (by omega)]) (WY _ ?_)))
      cases b with
      | false => exact br_t rfl (nm_r (nI_1 m) J)
      | true => exact br_f ca_n1 (nm_e (nm_r (nI_1 m) J))
end
theorem i_vc_wouldHold {k : Nat} {u : SX} {v : SY} (I : i_Rel k u v) (hk : k + 5 ≤ 2560) (v1 : Int32) (v2 : Int32) : wpX_wouldHold (fun r u' => wpY_wouldHold (fun r' v' => r' = r ∧ i_Rel (k + 5) u' v') v v1 v2) u v1 v2 := by
  refine ca_el (Q := fun u v => wpX_wouldHold (fun r u' => wpY_wouldHold (fun r' v' => r' = r ∧ i_Rel (k + 5) u' v') v v1 v2) u v1 v2) ?_ I
  intro T H P D G par kin cl nm mk dk da ds ln tm ks ar sp cn me ho ev li ofn tp tr pt S
  have K := ca_keep (tm := tm) (cn := cn) (li := li) (tp := tp) (tr := tr) (pt := pt) S
  obtain ⟨hT, hH6, hP, hD, hG, FK, CL, ME, hH, WD, PW, CW⟩ := S
  rcases ca_pc v1 (n := P) (by omega) with h | ⟨p, hp, rfl⟩
  · unfold wpX_wouldHold wpY_wouldHold
    exact ca_xisP0 h (br_t rfl (ca_yisP0 h (br_t rfl (And.intro rfl K))))
  · rcases ca_pc v2 (n := 16) (by omega) with h | ⟨m, hm, rfl⟩
    · unfold wpX_wouldHold wpY_wouldHold
      refine ca_xisP1 hP hp (br_f ca_n1 (ca_xisM0 h (br_t rfl (ca_yisP1 hP hp (br_f ca_n1 ?_)))))
      by_cases z : v2 < 0
      · exact br_t z (And.intro rfl K)
      · exact br_f z (br_t (ca_1516' (h.resolve_left z)) (And.intro rfl K))
    · have m0 := nI_pos (n := m) (by omega)
      have m15 : ¬ (15 : Int32) < nI m := nI_nlt (a := 15) (by omega) (by decide)
      rcases Nat.lt_or_ge D 20 with d | d
      · have d20 : ¬ nI D = 20 := fun z => by have := (nI_eq (b := 20) (by omega) (by omega)).mp z; omega
        obtain ⟨b, ho1, ev1, ofn1, tp1, tr1, pt1, ME1, CW1, WX, WY⟩ := ca_tryB (fT := nI T) (fH := nI H) (fG := nI G) (par := par) (dk := dk) (da := da) (ds := ds) (tm := tm) (cn := cn) (li := li) (tp := tp) (tr := tr) (pt := pt) FK CL hP hp d hm ME PW CW
        unfold wpX_wouldHold wpY_wouldHold
        refine ca_xisP1 hP hp (br_f ca_n1 (ca_xisM1 hm (br_f ca_n1 (br_t (nI_lt (b := 20) d (by decide)) (WX _ ?_)))))
        have KK : i_Rel (k + 5) ((nI T), (nI H), (nI P), (nI D), (nI G), par, kin, cl, nm, mk, dk, da, ds, ln, tm, ks, ar, sp, cn, (upd me D (nI m)), ho1, ev1, ofn1, li) ((nI D), (nI T), (nI H), (nI P), (nI G), tp1, par, cl, nm, mk, (upd me D (nI m)), dk, da, ln, tm, cn, ks, ar, li, tr1, pt1) := ca_mk ⟨hT, hH6, hP, hD, by omega, FK, CL, ME1, hH, WD, PW, CW1⟩
        cases b with
        | false => exact br_t rfl (ca_yisP1 hP hp (br_f ca_n1 (br_f m0 (br_f m15 (br_f d20 (And.intro (vp_in_nI d (by decide)) (nm_r (e' := upd me D (nI m)) (by rw [nI_clamp (by omega)]) (WY _ (br_t rfl (And.intro rfl KK))))))))))
        | true => exact br_f ca_n1 (ca_yisP1 hP hp (br_f ca_n1 (br_f m0 (br_f m15 (br_f d20 (And.intro (vp_in_nI d (by decide)) (nm_r (e' := upd me D (nI m)) (by rw [nI_clamp (by omega)]) (WY _ (br_f ca_n1 (And.intro rfl KK))))))))))
      · have e20 : nI D = 20 := by rw [show D = 20 by omega]; rfl
        unfold wpX_wouldHold wpY_wouldHold
        exact ca_xisP1 hP hp (br_f ca_n1 (ca_xisM1 hm (br_f ca_n1 (br_f (nI_nlt (b := 20) d (by omega)) (ca_yisP1 hP hp (br_f ca_n1 (br_f m0 (br_f m15 (br_t e20 (And.intro rfl K))))))))))
theorem i_vc_would {k : Nat} {u : SX} {v : SY} (I : i_Rel k u v) (hk : k + 5 ≤ 2560) (v1 : Int32) : wpX_would (fun r u' => wpY_would (fun r' v' => r' = r ∧ i_Rel (k + 5) u' v') v v1) u v1 := by
  refine ca_el (Q := fun u v => wpX_would (fun r u' => wpY_would (fun r' v' => r' = r ∧ i_Rel (k + 5) u' v') v v1) u v1) ?_ I
  intro T H P D G par kin cl nm mk dk da ds ln tm ks ar sp cn me ho ev li ofn tp tr pt S
  have K := ca_keep (tm := tm) (cn := cn) (li := li) (tp := tp) (tr := tr) (pt := pt) S
  obtain ⟨hT, hH6, hP, hD, hG, FK, CL, ME, hH, WD, PW, CW⟩ := S
  rcases ca_pc v1 (n := P) (by omega) with h | ⟨p, hp, rfl⟩
  · unfold wpX_would wpY_would
    exact ca_xisP0 h (br_t rfl (ca_yisP0 h (br_t rfl (And.intro rfl K))))
  · rcases Nat.lt_or_ge D 20 with d | d
    · have d20 : ¬ nI D = 20 := fun z => by have := (nI_eq (b := 20) (by omega) (by omega)).mp z; omega
      obtain ⟨x2', me', ho', ev', ofn', tp', tr', pt', ME', CW', IX, IY⟩ := ca_wouldL (fT := nI T) (fH := nI H) (fG := nI G) (par := par) (dk := dk) (da := da) (ds := ds) (tm := tm) (cn := cn) (li := li) FK CL hP hp d PW 16 0 rfl 0 me ho ev ofn tp tr pt ME CW
      unfold wpX_would wpY_would
      refine ca_xisP1 hP hp (br_f ca_n1 (br_t (nI_lt (b := 20) d (by decide)) (Exists.intro 17 (IX _ ?_ 17 (by omega)))))
      refine ca_yisP1 hP hp (br_f ca_n1 (br_f d20 (Exists.intro 17 (IY _ ?_ 17 (by omega)))))
      exact And.intro rfl (ca_mk ⟨hT, hH6, hP, hD, by omega, FK, CL, ME', hH, WD, PW, CW'⟩)
    · have e20 : nI D = 20 := by rw [show D = 20 by omega]; rfl
      unfold wpX_would wpY_would
      exact ca_xisP1 hP hp (br_f ca_n1 (br_f (nI_nlt (b := 20) d (by omega)) (ca_yisP1 hP hp (br_f ca_n1 (br_t e20 (And.intro rfl K))))))
end
