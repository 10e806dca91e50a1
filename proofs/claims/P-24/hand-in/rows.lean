section
/-! rows pasted from the kit (kit/rows), a starting text -/
theorem pk_us {f : Nat → Int32} {k : Nat} {x : Int32} : upd f k x k = x := if_pos rfl
theorem pk_un {f : Nat → Int32} {k j : Nat} {x : Int32} (h : j ≠ k) : upd f k x j = f j := if_neg h
theorem pk_sub {a b : Nat} (h : b ≤ a) : nI a - nI b = nI (a - b) := by
  obtain ⟨c, rfl⟩ : ∃ c, a = c + b := ⟨a - b, by omega⟩
  rw [← nI_add, Int32.add_sub_cancel, Nat.add_sub_cancel]
theorem pk_m1 (n : Nat) : nI (n + 1) + (-1) = nI n := by
  rw [← nI_1, Int32.add_assoc, show (1 : Int32) + (-1) = 0 from rfl, Int32.add_zero]
theorem pk_mul (a b : Nat) : nI a * nI b = nI (a * b) := (Int32.ofNat_mul a b).symm
theorem pk_ix (x : Int32) {n : Nat} (hn : n < 2 ^ 31) : x < 0 ∨ nI n ≤ x ∨ ∃ j : Nat, j < n ∧ x = nI j := by
  by_cases h : x < 0
  · exact Or.inl h
  · obtain ⟨j, hj, rfl⟩ := nI_of h
    by_cases h2 : j < n
    · exact Or.inr (Or.inr ⟨j, h2, rfl⟩)
    · exact Or.inr (Or.inl (nI_le (by omega) hj))
theorem pk_le {x y : Int32} {A B : Prop} (a b : Nat) (f : a ≤ b → A) (g : b < a → B) (hx : x = nI a := by rfl) (hy : y = nI b := by rfl) (ha : a < 2 ^ 31 := by omega) (hb : b < 2 ^ 31 := by omega) : (x ≤ y → A) ∧ (¬ x ≤ y → B) := by
  subst hx hy
  rw [nI_leI ha hb]
  exact ⟨f, fun z => g (by omega)⟩
theorem pk_lt {x y : Int32} {A B : Prop} (a b : Nat) (f : a < b → A) (g : b ≤ a → B) (hx : x = nI a := by rfl) (hy : y = nI b := by rfl) (ha : a < 2 ^ 31 := by omega) (hb : b < 2 ^ 31 := by omega) : (x < y → A) ∧ (¬ x < y → B) := by
  subst hx hy
  rw [nI_ltI ha hb]
  exact ⟨f, fun z => g (by omega)⟩
theorem pk_eq {x y : Int32} {A B : Prop} (a b : Nat) (f : a = b → A) (g : a ≠ b → B) (hx : x = nI a := by rfl) (hy : y = nI b := by rfl) (ha : a < 2 ^ 31 := by omega) (hb : b < 2 ^ 31 := by omega) : (x = y → A) ∧ (¬ x = y → B) := by
  subst hx hy
  rw [nI_eq ha hb]
  exact ⟨f, g⟩
theorem pk_in {x : Int32} (n N : Nat) (h : n < N) (hx : x = nI n := by rfl) (hN : N < 2 ^ 31 := by omega) : vp_in x N := by
  subst hx
  exact vp_in_nI h hN
theorem pk_cl {x : Int32} (n : Nat) (hx : x = nI n := by rfl) (h : n < 2 ^ 31 := by omega) : x.toNatClampNeg = n := by
  subst hx
  exact nI_clamp h
theorem pk_tn {n : Nat} (h : n < 2 ^ 32) : (nI n).toBitVec.toNat = n := Nat.mod_eq_of_lt h
theorem pk_and (x : Int32) {m : Int32} (k : Nat) (hm : m.toBitVec.toNat = 2 ^ k - 1) : x &&& m = nI (x.toBitVec.toNat % 2 ^ k) := by
  apply Int32.toBitVec_inj.mp
  apply BitVec.eq_of_toNat_eq
  rw [Int32.toBitVec_and, BitVec.toNat_and, hm, Nat.and_two_pow_sub_one_eq_mod]
  show _ = (BitVec.ofNat 32 _).toNat
  rw [BitVec.toNat_ofNat]
  exact (Nat.mod_eq_of_lt (Nat.lt_of_le_of_lt (Nat.mod_le _ _) x.toBitVec.isLt)).symm
theorem pk_ns (z : Int32) : narrow .short (.int z.toInt16.toInt32) = .int z.toInt16.toInt32 := congrArg Value.int (by simp)
theorem pk_charN {q : Nat} (hq : q < 65536) : narrow .char (.int (nI q)) = .int (nI q) ∧ fits .char (.int (nI q)) = true := by
  constructor
  · have e : (nI q).toUInt32.toUInt16.toUInt32.toInt32 = nI q := by
      apply Int32.toBitVec_inj.mp
      apply BitVec.eq_of_toNat_eq
      show (nI q).toUInt32.toUInt16.toUInt32.toNat = q % 2 ^ 32
      rw [UInt16.toNat_toUInt32, UInt32.toNat_toUInt16, show (nI q).toUInt32.toNat = q % 2 ^ 32 from rfl]
      omega
    exact congrArg Value.int e
  · have a : (0 : Int32) ≤ nI q := nI_pos' (by omega)
    have b : nI q ≤ 65535 := nI_le (b := 65535) (by omega) (by decide)
    show (decide ((0 : Int32) ≤ nI q) && decide (nI q ≤ 65535)) = true
    rw [decide_eq_true a, decide_eq_true b]
    rfl
theorem pk_char (x : Int32) : (x.toUInt32 % 65536).toInt32 = nI (x.toBitVec.toNat % 65536) := by
  apply Int32.toBitVec_inj.mp
  apply BitVec.eq_of_toNat_eq
  rw [pk_tn (by omega)]
  show (x.toUInt32 % 65536).toNat = _
  rw [UInt32.toNat_mod]
  rfl
theorem pk_nc (x : Int32) : narrow .char (.int (x.toUInt32 % 65536).toInt32) = .int (x.toUInt32 % 65536).toInt32 := by
  rw [pk_char]
  exact (pk_charN (Nat.mod_lt _ (by decide))).1
theorem pk_vs (z : Int32) : vp_nar .short z.toInt16.toInt32 = z.toInt16.toInt32 := by rw [vp_nar_short]; simp
theorem pk_vc (z : Int32) : vp_nar .char (z.toUInt32 % 65536).toInt32 = (z.toUInt32 % 65536).toInt32 := Value.int.inj (pk_nc z)
def bx_sum (f : Nat → Int32) : Nat → Int32
  | 0 => 0
  | n + 1 => bx_sum f n + f n
def bt (x : Int32) (i : Nat) : Bool := x.toBitVec.getLsbD i
theorem b_ext {x y : Int32} (h : ∀ i, i < 32 → bt x i = bt y i) : x = y := Int32.toBitVec_inj.mp (BitVec.eq_of_getLsbD_eq (fun i hi => h i hi))
theorem b_or (x y : Int32) (i : Nat) : bt (x ||| y) i = (bt x i || bt y i) := by unfold bt; rw [Int32.toBitVec_or, BitVec.getLsbD_or]
theorem b_and (x y : Int32) (i : Nat) : bt (x &&& y) i = (bt x i && bt y i) := by unfold bt; rw [Int32.toBitVec_and, BitVec.getLsbD_and]
theorem b_big {x : Int32} {i : Nat} (h : 32 ≤ i) : bt x i = false := BitVec.getLsbD_of_ge _ _ h
theorem b_0 (i : Nat) : bt 0 i = false := BitVec.getLsbD_zero
theorem s_l : ∀ n, n < 32 → ((nI n &&& 31).toBitVec.smod 32).toNat = n := by decide +kernel
theorem s_u : ∀ n, n < 32 → (((nI n).toUInt32 &&& Int32.toUInt32 31).toBitVec % 32).toNat = n := by decide +kernel
theorem b_shl (n : Nat) (hn : n < 32) (x : Int32) {i : Nat} (hi : i < 32) : bt (x <<< (nI n &&& 31)) i = (decide (n ≤ i) && bt x (i - n)) := by
  unfold bt
  rw [Int32.toBitVec_shiftLeft]
  show (x.toBitVec <<< ((nI n &&& 31).toBitVec.smod 32).toNat).getLsbD i = _
  rw [s_l n hn, BitVec.getLsbD_shiftLeft]
  rcases Nat.lt_or_ge i n with h | h
  · simp [h, Nat.not_le.mpr h]
  · simp [hi, h, Nat.not_lt.mpr h]
theorem b_ushr (n : Nat) (hn : n < 32) (x : Int32) (i : Nat) : bt ((x.toUInt32 >>> ((nI n).toUInt32 &&& Int32.toUInt32 31)).toInt32) i = bt x (n + i) := by
  show (x.toUInt32 >>> ((nI n).toUInt32 &&& Int32.toUInt32 31)).toBitVec.getLsbD i = x.toUInt32.toBitVec.getLsbD (n + i)
  rw [UInt32.toBitVec_shiftRight]
  show (x.toUInt32.toBitVec >>> (((nI n).toUInt32 &&& Int32.toUInt32 31).toBitVec % 32).toNat).getLsbD i = _
  rw [s_u n hn, BitVec.getLsbD_ushiftRight]
end
section
/-! chars and shorts: equality modulo 65536 is equality of the truncation to 16 bits -/
theorem zc_tn (x : Int32) : x.toInt16.toBitVec.toNat = x.toBitVec.toNat % 65536 := by
  show (x.toBitVec.signExtend 16).toNat = _
  rw [BitVec.signExtend_eq_setWidth_of_le _ (by decide), BitVec.toNat_setWidth]
theorem zc_teq {x y : Int32} (h : x.toBitVec.toNat % 65536 = y.toBitVec.toNat % 65536) : x.toInt16 = y.toInt16 := by
  apply Int16.toBitVec_inj.mp
  apply BitVec.eq_of_toNat_eq
  rw [zc_tn, zc_tn, h]
theorem zc_u16n (x : Int32) : lw_u16 x = nI (x.toBitVec.toNat % 65536) := pk_char x
theorem zc_cg {x y : Int32} (h : x.toInt16 = y.toInt16) : lw_u16 x = lw_u16 y := by
  rw [zc_u16n, zc_u16n, ← zc_tn, ← zc_tn, h]
theorem zc_cv (x : Int32) : (lw_u16 x).toInt16 = x.toInt16 := by
  apply zc_teq
  rw [zc_u16n, pk_tn (by omega)]
  omega
theorem zc_ca (x : Int32) : (x &&& 65535).toInt16 = x.toInt16 := by
  apply zc_teq
  rw [pk_and x 16 (by decide), pk_tn (by omega)]
  omega
theorem zc_u16 (v : Int32) : ∃ a : Nat, a < 65536 ∧ lw_u16 v = nI a := ⟨_, Nat.mod_lt _ (by decide), zc_u16n v⟩
theorem zc_nc {a : Nat} (h : a < 65536) : vp_nar .char (nI a) = nI a := Value.int.inj (pk_charN h).1
theorem zc_vc (x : Int32) : vp_nar .char (lw_u16 x) = lw_u16 x := pk_vc x
theorem zc_u16I {a : Nat} (h : a < 65536) : lw_u16 (nI a) = nI a := by
  rw [zc_u16n, pk_tn (by omega), Nat.mod_eq_of_lt h]
theorem zc_4 (a : Nat) : (4 : Int32) * nI a = nI (4 * a) := pk_mul 4 a
theorem zc_2 (a : Nat) : nI a + 2 = nI (a + 2) := nI_add a 2
theorem zc_3 (a : Nat) : nI a + 3 = nI (a + 3) := nI_add a 3
/-! the relation's pieces -/
/-- row i: the same four numbers on both sides, in their ranges -/
def zc_row (L C : Nat) (ro st en ha ty : Nat → Int32) (i : Nat) : Prop :=
  ∃ s e h t : Nat, s < e ∧ e ≤ L ∧ h < L ∧ t ≤ C ∧ ro (4 * i) = nI s ∧ ro (4 * i + 1) = nI e ∧ ro (4 * i + 2) = nI h ∧ ro (4 * i + 3) = nI t ∧ st i = nI s ∧ en i = nI e ∧ ha i = nI h ∧ ty i = nI t
/-- the map is the sum of the drifts, as a char -/
def zc_map (mp dr : Nat → Int32) : Prop := ∀ p, p ≤ 64 → mp p = lw_u16 (nI p + bx_sum dr (p + 1))
/-- a class's super lies below it -/
def zc_sup (C : Nat) (su : Nat → Int32) : Prop := ∀ c, 1 ≤ c → c ≤ C → ∃ s, s < c ∧ su c = nI s
def i_Rel (k : Nat) (u : SX) (v : SY) : Prop :=
  ∃ (L R C : Nat) (ro st en ha ty su mf mp dr : Nat → Int32), u = (nI L, nI R, nI C, ro, su, mf, mp) ∧ v = (nI R, nI (C + 1), nI L, st, en, ha, ty, su, mf, dr) ∧ 1 ≤ L ∧ L ≤ 64 ∧ R ≤ 4 ∧ C ≤ 5 ∧ (∀ i, i < R → zc_row L C ro st en ha ty i) ∧ zc_sup C su ∧ zc_map mp dr
theorem i_up {k : Nat} {u : SX} {v : SY} (h : i_Rel k u v) : i_Rel (k + 5) u v := h
/-- building the relation from its pieces -/
theorem zc_rel {k L R C : Nat} {ro st en ha ty su mf mp dr : Nat → Int32} (h1 : 1 ≤ L) (h2 : L ≤ 64) (h3 : R ≤ 4) (h4 : C ≤ 5) (h5 : ∀ i, i < R → zc_row L C ro st en ha ty i) (h6 : zc_sup C su) (h7 : zc_map mp dr) :
    i_Rel k (nI L, nI R, nI C, ro, su, mf, mp) (nI R, nI (C + 1), nI L, st, en, ha, ty, su, mf, dr) :=
  ⟨L, R, C, ro, st, en, ha, ty, su, mf, mp, dr, rfl, rfl, h1, h2, h3, h4, h5, h6, h7⟩
/-- opening the relation -/
theorem zc_el {k : Nat} {u : SX} {v : SY} {P : SX → SY → Prop} (I : i_Rel k u v)
    (h : ∀ (L R C : Nat) (ro st en ha ty su mf mp dr : Nat → Int32), 1 ≤ L → L ≤ 64 → R ≤ 4 → C ≤ 5 → (∀ i, i < R → zc_row L C ro st en ha ty i) → zc_sup C su → zc_map mp dr → P (nI L, nI R, nI C, ro, su, mf, mp) (nI R, nI (C + 1), nI L, st, en, ha, ty, su, mf, dr)) : P u v := by
  obtain ⟨L, R, C, ro, st, en, ha, ty, su, mf, mp, dr, rfl, rfl, h1, h2, h3, h4, h5, h6, h7⟩ := I
  exact h L R C ro st en ha ty su mf mp dr h1 h2 h3 h4 h5 h6 h7
/-! rows: as functions, as the walks read them, and their stores -/
def zc_rowF (L C : Nat) (ro st en ha ty : Nat → Int32) (S E H T : Nat → Nat) (i : Nat) : Prop :=
  S i < E i ∧ E i ≤ L ∧ H i < L ∧ T i ≤ C ∧ ro (4 * i) = nI (S i) ∧ ro (4 * i + 1) = nI (E i) ∧ ro (4 * i + 2) = nI (H i) ∧ ro (4 * i + 3) = nI (T i) ∧ st i = nI (S i) ∧ en i = nI (E i) ∧ ha i = nI (H i) ∧ ty i = nI (T i)
theorem zc_rows {L R C : Nat} {ro st en ha ty : Nat → Int32} (hL : L ≤ 64) (hC : C ≤ 5) (h : ∀ i, i < R → zc_row L C ro st en ha ty i) :
    ∃ S E H T : Nat → Nat, ∀ i, i < R → zc_rowF L C ro st en ha ty S E H T i := by
  refine ⟨fun i => (st i).toNatClampNeg, fun i => (en i).toNatClampNeg, fun i => (ha i).toNatClampNeg, fun i => (ty i).toNatClampNeg, fun i hi => ?_⟩
  obtain ⟨s, e, hh, t, a1, a2, a3, a4, b1, b2, b3, b4, c1, c2, c3, c4⟩ := h i hi
  unfold zc_rowF
  dsimp only
  rw [c1, c2, c3, c4, nI_clamp (by omega), nI_clamp (by omega), nI_clamp (by omega), nI_clamp (by omega)]
  exact ⟨a1, a2, a3, a4, b1, b2, b3, b4, rfl, rfl, rfl, rfl⟩
/-- how X reads row i (its base is nI (4 * i)) -/
theorem zc_rX {L C : Nat} {ro st en ha ty : Nat → Int32} {S E H T : Nat → Nat} {i : Nat} (h : zc_rowF L C ro st en ha ty S E H T i) (hi : i < 4) :
    (vp_in (nI (4 * i)) 16 ∧ vp_in (nI (4 * i) + 1) 16 ∧ vp_in (nI (4 * i) + 2) 16 ∧ vp_in (nI (4 * i) + 3) 16) ∧
    ro (nI (4 * i)).toNatClampNeg = nI (S i) ∧ ro (nI (4 * i) + 1).toNatClampNeg = nI (E i) ∧ ro (nI (4 * i) + 2).toNatClampNeg = nI (H i) ∧ ro (nI (4 * i) + 3).toNatClampNeg = nI (T i) := by
  obtain ⟨-, -, -, -, b1, b2, b3, b4, -⟩ := h
  rw [nI_1, zc_2, zc_3, nI_clamp (by omega), nI_clamp (by omega), nI_clamp (by omega), nI_clamp (by omega)]
  exact ⟨⟨vp_in_nI (by omega) (by omega), vp_in_nI (by omega) (by omega), vp_in_nI (by omega) (by omega), vp_in_nI (by omega) (by omega)⟩, b1, b2, b3, b4⟩
/-- how Y reads row i -/
theorem zc_rY {L C : Nat} {ro st en ha ty : Nat → Int32} {S E H T : Nat → Nat} {i : Nat} (h : zc_rowF L C ro st en ha ty S E H T i) (hi : i < 4) :
    vp_in (nI i) 4 ∧ st (nI i).toNatClampNeg = nI (S i) ∧ en (nI i).toNatClampNeg = nI (E i) ∧ ha (nI i).toNatClampNeg = nI (H i) ∧ ty (nI i).toNatClampNeg = nI (T i) := by
  obtain ⟨-, -, -, -, -, -, -, -, c1, c2, c3, c4⟩ := h
  rw [nI_clamp (by omega)]
  exact ⟨vp_in_nI hi (by omega), c1, c2, c3, c4⟩
def zc_u4 (ro : Nat → Int32) (k : Nat) (a b c d : Int32) : Nat → Int32 := upd (upd (upd (upd ro (4 * k) a) (4 * k + 1) b) (4 * k + 2) c) (4 * k + 3) d
theorem zc_u4_0 {ro : Nat → Int32} {k : Nat} {a b c d : Int32} : zc_u4 ro k a b c d (4 * k) = a := by
  unfold zc_u4; rw [pk_un (by omega), pk_un (by omega), pk_un (by omega), pk_us]
theorem zc_u4_1 {ro : Nat → Int32} {k : Nat} {a b c d : Int32} : zc_u4 ro k a b c d (4 * k + 1) = b := by
  unfold zc_u4; rw [pk_un (by omega), pk_un (by omega), pk_us]
theorem zc_u4_2 {ro : Nat → Int32} {k : Nat} {a b c d : Int32} : zc_u4 ro k a b c d (4 * k + 2) = c := by
  unfold zc_u4; rw [pk_un (by omega), pk_us]
theorem zc_u4_3 {ro : Nat → Int32} {k : Nat} {a b c d : Int32} : zc_u4 ro k a b c d (4 * k + 3) = d := by
  unfold zc_u4; rw [pk_us]
theorem zc_u4_n {ro : Nat → Int32} {k j : Nat} {a b c d : Int32} (h : j < 4 * k ∨ 4 * k + 4 ≤ j) : zc_u4 ro k a b c d j = ro j := by
  unfold zc_u4; rw [pk_un (by omega), pk_un (by omega), pk_un (by omega), pk_un (by omega)]
theorem zc_row_new {L C : Nat} {ro st en ha ty : Nat → Int32} {k s e h t : Nat} (h1 : s < e) (h2 : e ≤ L) (h3 : h < L) (h4 : t ≤ C) :
    zc_row L C (zc_u4 ro k (nI s) (nI e) (nI h) (nI t)) (upd st k (nI s)) (upd en k (nI e)) (upd ha k (nI h)) (upd ty k (nI t)) k :=
  ⟨s, e, h, t, h1, h2, h3, h4, zc_u4_0, zc_u4_1, zc_u4_2, zc_u4_3, pk_us, pk_us, pk_us, pk_us⟩
theorem zc_row_old {L C : Nat} {ro st en ha ty : Nat → Int32} {k i : Nat} {s e h t : Int32} (hi : i ≠ k) (r : zc_row L C ro st en ha ty i) :
    zc_row L C (zc_u4 ro k s e h t) (upd st k s) (upd en k e) (upd ha k h) (upd ty k t) i := by
  obtain ⟨s', e', h', t', a1, a2, a3, a4, b1, b2, b3, b4, c1, c2, c3, c4⟩ := r
  refine ⟨s', e', h', t', a1, a2, a3, a4, ?_, ?_, ?_, ?_, ?_, ?_, ?_, ?_⟩
  · rw [zc_u4_n (by omega)]; exact b1
  · rw [zc_u4_n (by omega)]; exact b2
  · rw [zc_u4_n (by omega)]; exact b3
  · rw [zc_u4_n (by omega)]; exact b4
  · rw [pk_un hi]; exact c1
  · rw [pk_un hi]; exact c2
  · rw [pk_un hi]; exact c3
  · rw [pk_un hi]; exact c4
theorem zc_row_C {L C C' : Nat} {ro st en ha ty : Nat → Int32} {i : Nat} (hc : C ≤ C') (r : zc_row L C ro st en ha ty i) : zc_row L C' ro st en ha ty i := by
  obtain ⟨s', e', h', t', a1, a2, a3, a4, b⟩ := r
  exact ⟨s', e', h', t', a1, a2, a3, by omega, b⟩
/-! the map by naturals -/
theorem zc_mapN {mp dr : Nat → Int32} (h : zc_map mp dr) : ∃ M : Nat → Nat, ∀ p, p ≤ 64 → mp p = nI (M p) ∧ M p < 65536 :=
  ⟨fun p => (nI p + bx_sum dr (p + 1)).toBitVec.toNat % 65536, fun p hp => ⟨by rw [h p hp, zc_u16n], Nat.mod_lt _ (by decide)⟩⟩
theorem zc_sum0 {dr : Nat → Int32} : ∀ n, (∀ q, q < n → dr q = 0) → bx_sum dr n = 0 := by
  intro n
  induction n with
  | zero => intro _; rfl
  | succ n ih =>
    intro h
    rw [bx_sum, ih (fun q hq => h q (by omega)), h n (by omega)]
    rfl
theorem zc_map0 {mp dr : Nat → Int32} (h : ∀ q, q ≤ 64 → mp q = lw_u16 (nI q)) (hd : ∀ q, q ≤ 64 → dr q = 0) : zc_map mp dr := by
  intro p hp
  rw [h p hp, zc_sum0 _ (fun q hq => hd q (by omega)), Int32.add_zero]
end
section
/-! mapAt -/
theorem zc_mapL {post : Int32 → Prop} {f1 f2 f3 : Int32} {st en ha ty su mf dr : Nat → Int32} {p : Nat} (hp : p ≤ 64) (h : post (lw_u16 (nI p + bx_sum dr (p + 1)))) :
    ∀ d j, j + d = p + 1 → wY_mapAt_4 post (nI p) f1 f2 f3 st en ha ty su mf dr (d + 1) (nI p + bx_sum dr j) (nI j) := by
  intro d
  induction d with
  | zero =>
    intro j hj
    have e : j = p + 1 := by omega
    subst e
    exact br_t (nI_lt (by omega) (by omega)) h
  | succ d ih =>
    intro j hj
    refine br_f (nI_nlt (by omega) (by omega)) ⟨vp_in_nI (by omega) (by omega), ?_⟩
    refine nm_r (e' := nI p + bx_sum dr (j + 1)) ?_ (nm_r (nI_1 j) (ih (j + 1) (by omega)))
    rw [nI_clamp (by omega), bx_sum, Int32.add_assoc]
theorem zc_mapAt {post : Int32 → Prop} {f1 f2 f3 : Int32} {st en ha ty su mf mp dr : Nat → Int32} (hm : zc_map mp dr) (p : Nat) (hp : p ≤ 64) {x : Int32} (hx : x = nI p) (h : post (mp p)) :
    wpY_mapAt post (f1, f2, f3, st, en, ha, ty, su, mf, dr) x := by
  subst hx
  rw [hm p hp] at h
  have k := zc_mapL (f1 := f1) (f2 := f2) (f3 := f3) (st := st) (en := en) (ha := ha) (ty := ty) (su := su) (mf := mf) hp h (p + 1) 0 (by omega)
  rw [show bx_sum dr 0 = 0 from rfl, Int32.add_zero, nI_0] at k
  exact ⟨p + 1 + 1, k⟩
/-! the constructors -/
theorem zc_init71 {post : SX → Prop} {fL fR fC : Int32} {ro su mf : Nat → Int32} (h : ∀ mp, (∀ q, q ≤ 64 → mp q = lw_u16 (nI q)) → post (fL, fR, fC, ro, su, mf, mp)) :
    ∀ d j mp, j + d = 65 → (∀ q, q < j → mp q = lw_u16 (nI q)) → wX_init_71 post fL fR fC (d + 1) (nI j) ro su mf mp := by
  intro d
  induction d with
  | zero =>
    intro j mp hj hm
    exact br_t (nI_lt (a := 64) (by omega) (by omega)) (h mp (fun q hq => hm q (by omega)))
  | succ d ih =>
    intro j mp hj hm
    refine br_f (nI_nlt (a := 64) (by omega) (by omega)) ⟨vp_in_nI (by omega) (by omega), ?_⟩
    refine nm_r (e' := upd mp j (lw_u16 (nI j))) (by rw [nI_clamp (by omega)]; exact congrArg (upd mp j) (zc_vc (nI j))) (nm_r (nI_1 j) (ih (j + 1) _ (by omega) ?_))
    intro q hq
    by_cases e : q = j
    · subst e; rw [pk_us]
    · rw [pk_un e]; exact hm q (by omega)
theorem zc_init54 {post : SX → Prop} {x : Int32} {f1 f2 f3 : Int32} {ro su mf mp0 : Nat → Int32} (h : ∀ mp, (∀ q, q ≤ 64 → mp q = lw_u16 (nI q)) → post (x, 0, 0, ro, su, mf, mp)) :
    wX_init_54 post x f1 f2 f3 ro su mf mp0 := by
  unfold wX_init_54
  exact ⟨66, zc_init71 h 65 0 mp0 (by omega) (fun q hq => absurd hq (by omega))⟩
theorem zc_rel0 {k L : Nat} (h1 : 1 ≤ L) (h2 : L ≤ 64) {mp : Nat → Int32} (hm : ∀ q, q ≤ 64 → mp q = lw_u16 (nI q)) :
    i_Rel k (nI L, 0, 0, (fun _ => 0), (fun _ => 0), (fun _ => 0), mp) (0, 1, nI L, (fun _ => 0), (fun _ => 0), (fun _ => 0), (fun _ => 0), (fun _ => 0), (fun _ => 0), (fun _ => 0)) :=
  zc_rel (R := 0) (C := 0) h1 h2 (by omega) (by omega) (fun i hi => absurd hi (by omega)) (fun c hc hc' => absurd hc (by omega)) (zc_map0 hm (fun _ _ => rfl))
theorem i_vc0 (k0 : Int32) : wpX_init (fun u => wpY_init (fun v => i_Rel 1 u v) k0) k0 := by
  unfold wpX_init
  by_cases h1 : 1 ≤ k0
  · by_cases h2 : k0 ≤ 64
    · have hp : ¬ k0 < 0 := by
        rw [Int32.lt_iff_toInt_lt]
        have h1' := Int32.le_iff_toInt_le.mp h1
        have a : (1 : Int32).toInt = 1 := by decide
        have b : (0 : Int32).toInt = 0 := by decide
        omega
      obtain ⟨L, hL, rfl⟩ := nI_of hp
      have h1' : 1 ≤ L := (nI_leI (a := 1) (by omega) hL).mp h1
      have h2' : L ≤ 64 := (nI_leI (b := 64) hL (by omega)).mp h2
      exact br_t h1 (br_t h2 (zc_init54 (fun mp hm => br_t h1 (br_t h2 (zc_rel0 h1' h2' hm)))))
    · exact br_t h1 (br_f h2 (zc_init54 (fun mp hm => br_t h1 (br_f h2 (zc_rel0 (L := 64) (by omega) (by omega) hm)))))
  · exact br_f h1 (br_t (by decide) (zc_init54 (fun mp hm => br_f h1 (zc_rel0 (L := 1) (by omega) (by omega) hm))))
/-! addClass -/
theorem zc_sup_add {C j : Nat} {su : Nat → Int32} (h : zc_sup C su) (hj : j ≤ C) : zc_sup (C + 1) (upd su (C + 1) (nI j)) := by
  intro c h1 h2
  by_cases e : c = C + 1
  · subst e; exact ⟨j, by omega, pk_us⟩
  · rw [pk_un e]; exact h c h1 (by omega)
theorem zc_i16 (v : Int32) : vp_nar .short (lw_i16 v) = lw_i16 v := pk_vs v
theorem zc_n0 : vp_nar .short 0 = nI 0 := by rw [vp_nar_short]; decide
theorem zc_b0 : vp_nar .boolean 0 = 0 := rfl
theorem zc_b1 : vp_nar .boolean 1 = 1 := rfl
theorem zc_X41_0 {post : Int32 → SX → Prop} {fL fR : Int32} {ro su mf mp : Nat → Int32} {C j : Nat} (hC : C < 5) (hj : vp_nar .short (nI j) = nI j)
    (h : post (nI (C + 1)) (fL, fR, nI (C + 1), ro, upd su (C + 1) (nI j), upd mf (C + 1) 0, mp)) :
    wX_addClass_41 post (nI j) 0 fL fR (nI C) ro su mf mp := by
  unfold wX_addClass_41
  have hi : vp_in (nI (C + 1)) 6 := vp_in_nI (by omega) (by omega)
  refine nm_r (nI_1 C) (br_t rfl ⟨hi, nm_r (e' := upd su (C + 1) (nI j)) ?_ ⟨hi, nm_r (e' := upd mf (C + 1) 0) ?_ h⟩⟩)
  · rw [nI_clamp (by omega), hj]
  · rw [nI_clamp (by omega), zc_b0]
theorem zc_X41_1 {post : Int32 → SX → Prop} {fL fR : Int32} {ro su mf mp : Nat → Int32} {C : Nat} {x : Int32} (hC : C < 5)
    (h : post (nI (C + 1)) (fL, fR, nI (C + 1), ro, upd su (C + 1) (nI 0), upd mf (C + 1) 1, mp)) :
    wX_addClass_41 post x 1 fL fR (nI C) ro su mf mp := by
  unfold wX_addClass_41
  have hi : vp_in (nI (C + 1)) 6 := vp_in_nI (by omega) (by omega)
  refine nm_r (nI_1 C) (br_f (by decide) ⟨hi, nm_r (e' := upd su (C + 1) (nI 0)) ?_ ⟨hi, nm_r (e' := upd mf (C + 1) 1) ?_ h⟩⟩)
  · rw [nI_clamp (by omega), zc_n0]
  · rw [nI_clamp (by omega), zc_b1]
theorem zc_Y68 {post : Int32 → SY → Prop} {f1 f2 f3 : Int32} {st en ha ty su mf dr : Nat → Int32} {C : Nat} {b z w : Int32} (hC : C < 5) (hz : vp_nar .short z = w) (hb : vp_nar .boolean b = b)
    (h : post (nI (C + 1)) (f1, f2, f3, st, en, ha, ty, upd su (C + 1) w, upd mf (C + 1) b, dr)) :
    wY_addClass_68 post b (nI (C + 1)) z (nI (C + 1)) f1 f2 f3 st en ha ty su mf dr := by
  unfold wY_addClass_68
  have hi : vp_in (nI (C + 1)) 6 := vp_in_nI (by omega) (by omega)
  refine ⟨hi, nm_r (e' := upd su (C + 1) w) ?_ ⟨hi, nm_r (e' := upd mf (C + 1) b) ?_ h⟩⟩
  · rw [nI_clamp (by omega), hz]
  · rw [nI_clamp (by omega), hb]
theorem zc_Y42_0 {post : Int32 → SY → Prop} {f1 f3 : Int32} {st en ha ty su mf dr : Nat → Int32} {C j : Nat} (hC : C < 5) (hj : vp_nar .short (nI j) = nI j)
    (h : post (nI (C + 1)) (f1, nI (C + 1 + 1), f3, st, en, ha, ty, upd su (C + 1) (nI j), upd mf (C + 1) 0, dr)) :
    wY_addClass_42 post (nI j) 0 f1 (nI (C + 1)) f3 st en ha ty su mf dr := by
  unfold wY_addClass_42
  exact nm_r (nI_1 (C + 1)) (br_t rfl (zc_Y68 hC hj zc_b0 h))
theorem zc_Y42_1 {post : Int32 → SY → Prop} {f1 f3 : Int32} {st en ha ty su mf dr : Nat → Int32} {C : Nat} {x : Int32} (hC : C < 5)
    (h : post (nI (C + 1)) (f1, nI (C + 1 + 1), f3, st, en, ha, ty, upd su (C + 1) (nI 0), upd mf (C + 1) 1, dr)) :
    wY_addClass_42 post x 1 f1 (nI (C + 1)) f3 st en ha ty su mf dr := by
  unfold wY_addClass_42
  exact nm_r (nI_1 (C + 1)) (br_f (by decide) (zc_Y68 hC zc_n0 zc_b1 h))
theorem i_vc_addClass {k : Nat} {u : SX} {v : SY} (I : i_Rel k u v) (hk : k + 5 ≤ 2561) (v1 : Int32) (v2 : Int32) : wpX_addClass (fun r u' => wpY_addClass (fun r' v' => r' = r ∧ i_Rel (k + 5) u' v') v (lw_i16 v1) (lw_bz v2)) u (lw_i16 v1) (lw_bz v2) := by
  have hx := zc_i16 v1
  have hb := lw_bz_01 v2
  generalize lw_i16 v1 = x at hx ⊢
  generalize lw_bz v2 = b at hb ⊢
  refine zc_el (P := fun u v => wpX_addClass (fun r u' => wpY_addClass (fun r' v' => r' = r ∧ i_Rel (k + 5) u' v') v x b) u x b) I ?_
  intro L R C ro st en ha ty su mf mp dr h1 h2 h3 h4 h5 h6 h7
  have hr := zc_rel (k := k + 5) (mf := mf) h1 h2 h3 h4 h5 h6 h7
  by_cases hC : C < 5
  · have cX : nI C < 5 := nI_lt (b := 5) hC (by omega)
    have cY : nI (C + 1) < 6 := nI_lt (b := 6) (by omega) (by omega)
    have h5' : ∀ i, i < R → zc_row L (C + 1) ro st en ha ty i := fun i hi => zc_row_C (by omega) (h5 i hi)
    rcases hb with rfl | rfl
    · by_cases x0 : x < 0
      · exact br_t cX (br_t rfl (br_t x0 (br_t cY (br_t rfl (br_t x0 ⟨rfl, hr⟩)))))
      · obtain ⟨j, hj, rfl⟩ := nI_of x0
        by_cases hjC : j ≤ C
        · have jX : nI j ≤ nI C := nI_le hjC (by omega)
          have jY : nI j < nI (C + 1) := nI_lt (by omega) (by omega)
          have ji : vp_in (nI j) 6 := vp_in_nI (by omega) (by omega)
          by_cases hm : mf (nI j).toNatClampNeg = 0
          · exact br_t cX (br_t rfl (br_f x0 (br_t jX ⟨ji, br_t hm (zc_X41_0 hC hx
              (br_t cY (br_t rfl (br_f x0 (br_t jY ⟨ji, br_t hm (zc_Y42_0 hC hx ⟨rfl, zc_rel h1 h2 h3 (by omega) h5' (zc_sup_add h6 hjC) h7⟩)⟩)))))⟩)))
          · exact br_t cX (br_t rfl (br_f x0 (br_t jX ⟨ji, br_f hm
              (br_t cY (br_t rfl (br_f x0 (br_t jY ⟨ji, br_f hm ⟨rfl, hr⟩⟩))))⟩)))
        · have jX : ¬ nI j ≤ nI C := nI_ge (by omega) hj
          have jY : ¬ nI j < nI (C + 1) := nI_nlt (by omega) hj
          exact br_t cX (br_t rfl (br_f x0 (br_f jX (br_t cY (br_t rfl (br_f x0 (br_f jY ⟨rfl, hr⟩)))))))
    · have n1 : ¬ (1 : Int32) = 0 := by decide
      exact br_t cX (br_f n1 (zc_X41_1 hC (br_t cY (br_f n1 (zc_Y42_1 hC ⟨rfl, zc_rel h1 h2 h3 (by omega) h5' (zc_sup_add h6 (Nat.zero_le C)) h7⟩)))))
  · have cX : ¬ nI C < 5 := nI_nlt (b := 5) (by omega) (by omega)
    have cY : ¬ nI (C + 1) < 6 := nI_nlt (b := 6) (by omega) (by omega)
    exact br_f cX (br_f cY ⟨rfl, hr⟩)
end
section
/-! addRow -/
theorem i_vc_addRow {k : Nat} {u : SX} {v : SY} (I : i_Rel k u v) (hk : k + 5 ≤ 2561) (v1 : Int32) (v2 : Int32) (v3 : Int32) (v4 : Int32) : wpX_addRow (fun r u' => wpY_addRow (fun r' v' => r' = r ∧ i_Rel (k + 5) u' v') v (lw_u16 v1) (lw_u16 v2) (lw_u16 v3) (lw_u16 v4)) u (lw_u16 v1) (lw_u16 v2) (lw_u16 v3) (lw_u16 v4) := by
  obtain ⟨a, ha', ea⟩ := zc_u16 v1
  obtain ⟨b, hb', eb⟩ := zc_u16 v2
  obtain ⟨c, hc', ec⟩ := zc_u16 v3
  obtain ⟨t, ht', et⟩ := zc_u16 v4
  rw [ea, eb, ec, et]
  refine zc_el (P := fun u v => wpX_addRow (fun r u' => wpY_addRow (fun r' v' => r' = r ∧ i_Rel (k + 5) u' v') v (nI a) (nI b) (nI c) (nI t)) u (nI a) (nI b) (nI c) (nI t)) I ?_
  intro L R C ro st en ha ty su mf mp dr h1 h2 h3 h4 h5 h6 h7
  have hr := zc_rel (k := k + 5) (mf := mf) h1 h2 h3 h4 h5 h6 h7
  by_cases g1 : R < 4
  · have x1 : nI R < 4 := nI_lt (b := 4) g1 (by omega)
    by_cases g2 : a < b
    · have x2 : nI a < nI b := nI_lt g2 (by omega)
      by_cases g3 : b ≤ L
      · have x3 : nI b ≤ nI L := nI_le g3 (by omega)
        by_cases g4 : c < L
        · have x4 : nI c < nI L := nI_lt g4 (by omega)
          by_cases g5 : t ≤ C
          · have x5 : nI t ≤ nI C := nI_le g5 (by omega)
            have y5 : nI t < nI (C + 1) := nI_lt (by omega) (by omega)
            have i0 : vp_in (nI (4 * R)) 16 := vp_in_nI (by omega) (by omega)
            have i1 : vp_in (nI (4 * R) + 1) 16 := by rw [nI_1]; exact vp_in_nI (by omega) (by omega)
            have i2 : vp_in (nI (4 * R) + 2) 16 := by rw [zc_2]; exact vp_in_nI (by omega) (by omega)
            have i3 : vp_in (nI (4 * R) + 3) 16 := by rw [zc_3]; exact vp_in_nI (by omega) (by omega)
            have j0 : vp_in (nI R) 4 := vp_in_nI g1 (by omega)
            have q0 : ∀ f : Nat → Int32, upd f (nI (4 * R)).toNatClampNeg (vp_nar .char (nI a)) = upd f (4 * R) (nI a) := fun f => by rw [nI_clamp (by omega), zc_nc ha']
            have q1 : ∀ f : Nat → Int32, upd f (nI (4 * R) + 1).toNatClampNeg (vp_nar .char (nI b)) = upd f (4 * R + 1) (nI b) := fun f => by rw [nI_1, nI_clamp (by omega), zc_nc hb']
            have q2 : ∀ f : Nat → Int32, upd f (nI (4 * R) + 2).toNatClampNeg (vp_nar .char (nI c)) = upd f (4 * R + 2) (nI c) := fun f => by rw [zc_2, nI_clamp (by omega), zc_nc hc']
            have q3 : ∀ f : Nat → Int32, upd f (nI (4 * R) + 3).toNatClampNeg (vp_nar .char (nI t)) = upd f (4 * R + 3) (nI t) := fun f => by rw [zc_3, nI_clamp (by omega), zc_nc ht']
            have w : ∀ (f : Nat → Int32) (z : Nat), z < 65536 → upd f (nI R).toNatClampNeg (vp_nar .char (nI z)) = upd f R (nI z) := fun f z hz => by rw [nI_clamp (by omega), zc_nc hz]
            refine br_t x1 (br_t x2 (br_t x3 (br_t x4 (br_t x5 (nm_r (zc_4 R) ⟨i0, nm_r (q0 _) ⟨i1, nm_r (q1 _) ⟨i2, nm_r (q2 _) ⟨i3, nm_r (q3 _) (nm_r (nI_1 R) ?_)⟩⟩⟩⟩)))))
            refine br_t x1 (br_t x2 (br_t x3 (br_t x4 (br_t y5 (nm_r (nI_1 R) ⟨j0, nm_r (w _ a ha') ⟨j0, nm_r (w _ b hb') ⟨j0, nm_r (w _ c hc') ⟨j0, nm_r (w _ t ht') ⟨rfl, ?_⟩⟩⟩⟩⟩)))))
            refine zc_rel h1 h2 (by omega) h4 ?_ h6 h7
            intro i hi
            by_cases e : i = R
            · subst e; exact zc_row_new g2 g3 g4 g5
            · exact zc_row_old e (h5 i (by omega))
          · have x5 : ¬ nI t ≤ nI C := nI_ge (by omega) (by omega)
            have y5 : ¬ nI t < nI (C + 1) := nI_nlt (by omega) (by omega)
            exact br_t x1 (br_t x2 (br_t x3 (br_t x4 (br_f x5 (br_t x1 (br_t x2 (br_t x3 (br_t x4 (br_f y5 ⟨rfl, hr⟩)))))))))
        · have x4 : ¬ nI c < nI L := nI_nlt (by omega) (by omega)
          exact br_t x1 (br_t x2 (br_t x3 (br_f x4 (br_t x1 (br_t x2 (br_t x3 (br_f x4 ⟨rfl, hr⟩)))))))
      · have x3 : ¬ nI b ≤ nI L := nI_ge (by omega) (by omega)
        exact br_t x1 (br_t x2 (br_f x3 (br_t x1 (br_t x2 (br_f x3 ⟨rfl, hr⟩)))))
    · have x2 : ¬ nI a < nI b := nI_nlt (by omega) (by omega)
      exact br_t x1 (br_f x2 (br_t x1 (br_f x2 ⟨rfl, hr⟩)))
  · have x1 : ¬ nI R < 4 := nI_nlt (b := 4) (by omega) (by omega)
    exact br_f x1 (br_f x1 ⟨rfl, hr⟩)
/-! rowAt -/
theorem i_vc_rowAt {k : Nat} {u : SX} {v : SY} (I : i_Rel k u v) (hk : k + 5 ≤ 2561) (v1 : Int32) (v2 : Int32) : wpX_rowAt (fun r => wpY_rowAt (fun r' => r' = r ∧ i_Rel (k + 5) u v) v v1 v2) u v1 v2 := by
  refine zc_el (P := fun u v => wpX_rowAt (fun r => wpY_rowAt (fun r' => r' = r ∧ i_Rel (k + 5) u v) v v1 v2) u v1 v2) I ?_
  intro L R C ro st en ha ty su mf mp dr h1 h2 h3 h4 h5 h6 h7
  have hr := zc_rel (k := k + 5) (mf := mf) h1 h2 h3 h4 h5 h6 h7
  by_cases a0 : v1 < 0
  · exact br_t a0 (br_t a0 ⟨rfl, hr⟩)
  by_cases a1 : nI R ≤ v1
  · exact br_f a0 (br_t a1 (br_f a0 (br_t a1 ⟨rfl, hr⟩)))
  by_cases b0 : v2 < 0
  · exact br_f a0 (br_f a1 (br_t b0 (br_f a0 (br_f a1 (br_t b0 ⟨rfl, hr⟩)))))
  by_cases b1 : v2 ≤ 3
  · obtain ⟨i, hi, rfl⟩ := nI_of a0
    obtain ⟨q, hq, rfl⟩ := nI_of b0
    have hiR : i < R := by
      rw [nI_leI (by omega) hi] at a1
      omega
    have hq3 : q ≤ 3 := (nI_leI (b := 3) hq (by omega)).mp b1
    have ei : vp_in (nI i) 4 := vp_in_nI (by omega) (by omega)
    have ex : (4 * nI i) + nI q = nI (4 * i + q) := by rw [zc_4, nI_add]
    have exi : vp_in ((4 * nI i) + nI q) 16 := by rw [ex]; exact vp_in_nI (by omega) (by omega)
    have exc : ((4 * nI i) + nI q).toNatClampNeg = 4 * i + q := by rw [ex, nI_clamp (by omega)]
    have ec : (nI i).toNatClampNeg = i := nI_clamp (by omega)
    obtain ⟨s, e, h, t, -, -, -, -, r0, r1, r2, r3, c0, c1, c2, c3⟩ := h5 i hiR
    refine br_f a0 (br_f a1 (br_f b0 (br_t b1 ⟨exi, br_f a0 (br_f a1 (br_f b0 (br_t b1 ?_)))⟩)))
    rw [exc, ec]
    have k0 : nI q = 0 ↔ q = 0 := nI_eq (b := 0) (by omega) (by omega)
    have k1 : nI q = 1 ↔ q = 1 := nI_eq (b := 1) (by omega) (by omega)
    have k2 : nI q = 2 ↔ q = 2 := nI_eq (b := 2) (by omega) (by omega)
    by_cases q0 : q = 0
    · exact br_t (k0.mpr q0) ⟨ei, by subst q0; exact c0.trans r0.symm, hr⟩
    by_cases q1 : q = 1
    · exact br_f (fun z => q0 (k0.mp z)) (br_t (k1.mpr q1) ⟨ei, by subst q1; exact c1.trans r1.symm, hr⟩)
    by_cases q2 : q = 2
    · exact br_f (fun z => q0 (k0.mp z)) (br_f (fun z => q1 (k1.mp z)) (br_t (k2.mpr q2) ⟨ei, by subst q2; exact c2.trans r2.symm, hr⟩))
    have q3 : q = 3 := by omega
    exact br_f (fun z => q0 (k0.mp z)) (br_f (fun z => q1 (k1.mp z)) (br_f (fun z => q2 (k2.mp z)) ⟨ei, by subst q3; exact c3.trans r3.symm, hr⟩))
  · exact br_f a0 (br_f a1 (br_f b0 (br_f b1 (br_f a0 (br_f a1 (br_f b0 (br_f b1 ⟨rfl, hr⟩)))))))
end
section
/-! shiftFrom -/
/-- the map after the cells from fr up to (not with) j are shifted by D -/
def zc_sh (mp : Nat → Int32) (fr : Nat) (D : Int32) (j : Nat) : Nat → Int32 := fun q => if fr ≤ q ∧ q < j then lw_u16 (mp q + D) else mp q
theorem zc_sh_in {mp : Nat → Int32} {fr j q : Nat} {D : Int32} (h1 : fr ≤ q) (h2 : q < j) : zc_sh mp fr D j q = lw_u16 (mp q + D) := if_pos ⟨h1, h2⟩
theorem zc_sh_lo {mp : Nat → Int32} {fr j q : Nat} {D : Int32} (h : q < fr) : zc_sh mp fr D j q = mp q := if_neg (fun z => absurd z.1 (by omega))
theorem zc_sh_hi {mp : Nat → Int32} {fr j q : Nat} {D : Int32} (h : j ≤ q) : zc_sh mp fr D j q = mp q := if_neg (fun z => absurd z.2 (by omega))
theorem zc_sh_0 {mp : Nat → Int32} {fr : Nat} {D : Int32} : zc_sh mp fr D fr = mp := by
  funext q
  rcases Nat.lt_or_ge q fr with h | h
  · exact zc_sh_lo h
  · exact zc_sh_hi h
theorem zc_sh_s {mp : Nat → Int32} {fr j : Nat} {D : Int32} (h : fr ≤ j) : upd (zc_sh mp fr D j) j (lw_u16 (mp j + D)) = zc_sh mp fr D (j + 1) := by
  funext q
  by_cases e : q = j
  · subst e
    rw [pk_us, zc_sh_in h (by omega)]
  · rw [pk_un e]
    by_cases h1 : fr ≤ q
    · by_cases h2 : q < j
      · rw [zc_sh_in h1 h2, zc_sh_in h1 (by omega)]
      · rw [zc_sh_hi (by omega), zc_sh_hi (by omega)]
    · rw [zc_sh_lo (by omega), zc_sh_lo (by omega)]
theorem zc_mask (x : Int32) : vp_nar .char (((x &&& 65535).toUInt32 % 65536).toInt32) = lw_u16 x :=
  (zc_vc (x &&& 65535)).trans (zc_cg (zc_ca x))
theorem zc_X10 {post : Int32 → SX → Prop} {D fL fR fC : Int32} {ro su mf mp : Nat → Int32} {fr : Nat} (hf : fr ≤ 64) (h : post (zc_sh mp fr D 65 fr) (fL, fR, fC, ro, su, mf, zc_sh mp fr D 65)) :
    ∀ d j, j + d = 65 → fr ≤ j → wX_shiftFrom_10 post (nI fr) D fL fR fC (d + 1) (nI j) ro su mf (zc_sh mp fr D j) := by
  intro d
  induction d with
  | zero =>
    intro j hj _
    have e : j = 65 := by omega
    subst e
    refine br_t (nI_lt (a := 64) (by omega) (by omega)) ⟨vp_in_nI (by omega) (by omega), ?_⟩
    rw [nI_clamp (by omega)]
    exact h
  | succ d ih =>
    intro j hj hfj
    have hi : vp_in (nI j) 65 := vp_in_nI (by omega) (by omega)
    refine br_f (nI_nlt (a := 64) (by omega) (by omega)) ⟨hi, hi, nm_r (e' := zc_sh mp fr D (j + 1)) ?_ (nm_r (nI_1 j) (ih (j + 1) (by omega) (by omega)))⟩
    rw [nI_clamp (by omega), zc_mask, zc_sh_hi (Nat.le_refl j), zc_sh_s hfj]
/-- the sums of the drifts after one drift has grown by D (as a short) -/
theorem zc_sumLo {dr : Nat → Int32} {fr : Nat} {x : Int32} : ∀ n, n ≤ fr → bx_sum (upd dr fr x) n = bx_sum dr n := by
  intro n
  induction n with
  | zero => intro _; rfl
  | succ n ih =>
    intro h
    rw [bx_sum, bx_sum, ih (by omega), pk_un (by omega)]
theorem zc_sumHi {dr : Nat → Int32} {fr : Nat} {D : Int32} : ∀ d, (bx_sum (upd dr fr ((dr fr + D).toInt16.toInt32)) (fr + 1 + d)).toInt16 = (bx_sum dr (fr + 1 + d)).toInt16 + D.toInt16 := by
  intro d
  induction d with
  | zero =>
    show (bx_sum (upd dr fr ((dr fr + D).toInt16.toInt32)) (fr + 1)).toInt16 = (bx_sum dr (fr + 1)).toInt16 + D.toInt16
    rw [bx_sum, bx_sum, zc_sumLo fr (Nat.le_refl fr), pk_us, Int32.toInt16_add, Int16.toInt16_toInt32, Int32.toInt16_add, Int32.toInt16_add, Int16.add_assoc]
  | succ d ih =>
    show (bx_sum (upd dr fr ((dr fr + D).toInt16.toInt32)) (fr + 1 + d + 1)).toInt16 = (bx_sum dr (fr + 1 + d + 1)).toInt16 + D.toInt16
    rw [bx_sum, bx_sum, pk_un (by omega), Int32.toInt16_add (bx_sum dr (fr + 1 + d)), Int32.toInt16_add (bx_sum (upd dr fr _) (fr + 1 + d)), ih]
    generalize (bx_sum dr (fr + 1 + d)).toInt16 = a
    generalize (dr (fr + 1 + d)).toInt16 = b
    generalize D.toInt16 = c
    rw [Int16.add_assoc, Int16.add_comm c b, ← Int16.add_assoc]
theorem zc_map_sh {mp dr : Nat → Int32} {fr : Nat} {D : Int32} (h : zc_map mp dr) : zc_map (zc_sh mp fr D 65) (upd dr fr ((dr fr + D).toInt16.toInt32)) := by
  intro p hp
  rcases Nat.lt_or_ge p fr with hf | hf
  · rw [zc_sh_lo hf, zc_sumLo (p + 1) (by omega)]
    exact h p hp
  · rw [zc_sh_in hf (by omega)]
    apply zc_cg
    have k := zc_sumHi (dr := dr) (fr := fr) (D := D) (p - fr)
    rw [show fr + 1 + (p - fr) = p + 1 from by omega] at k
    rw [Int32.toInt16_add, h p hp, zc_cv, Int32.toInt16_add, Int32.toInt16_add, k, Int16.add_assoc]
theorem zc_ret {a b D : Int32} : lw_u16 ((a - b) + (b + D).toInt16.toInt32) = lw_u16 (a + D) := by
  apply zc_cg
  rw [Int32.toInt16_add, Int16.toInt16_toInt32, Int32.toInt16_sub, Int32.toInt16_add, Int32.toInt16_add]
  generalize a.toInt16 = a
  generalize b.toInt16 = b
  generalize D.toInt16 = c
  rw [← Int16.add_assoc, Int16.sub_add_cancel]
theorem i_vc_shiftFrom {k : Nat} {u : SX} {v : SY} (I : i_Rel k u v) (hk : k + 5 ≤ 2561) (v1 : Int32) (v2 : Int32) : wpX_shiftFrom (fun r u' => wpY_shiftFrom (fun r' v' => r' = r ∧ i_Rel (k + 5) u' v') v (lw_u16 v1) (lw_i16 v2)) u (lw_u16 v1) (lw_i16 v2) := by
  obtain ⟨fr, hfr, ef⟩ := zc_u16 v1
  rw [ef]
  generalize lw_i16 v2 = D
  refine zc_el (P := fun u v => wpX_shiftFrom (fun r u' => wpY_shiftFrom (fun r' v' => r' = r ∧ i_Rel (k + 5) u' v') v (nI fr) D) u (nI fr) D) I ?_
  intro L R C ro st en ha ty su mf mp dr h1 h2 h3 h4 h5 h6 h7
  have hr := zc_rel (k := k + 5) (mf := mf) h1 h2 h3 h4 h5 h6 h7
  by_cases g : fr ≤ 64
  · have x : nI fr ≤ 64 := nI_le (b := 64) g (by omega)
    have hi : vp_in (nI fr) 65 := vp_in_nI (by omega) (by omega)
    have hc : (nI fr).toNatClampNeg = fr := nI_clamp (by omega)
    have goalY : ∀ r : Int32, r = lw_u16 (mp fr + D) → wpY_shiftFrom (fun r' v' => r' = r ∧ i_Rel (k + 5) (nI L, nI R, nI C, ro, su, mf, zc_sh mp fr D 65) v') (nI R, nI (C + 1), nI L, st, en, ha, ty, su, mf, dr) (nI fr) D := by
      intro r er
      refine br_t x (zc_mapAt h7 fr g rfl ⟨hi, nm_e ⟨hi, hi, nm_r (e' := upd dr fr ((dr fr + D).toInt16.toInt32)) ?_ ⟨?_, zc_rel h1 h2 h3 h4 h5 h6 (zc_map_sh h7)⟩⟩⟩)
      · rw [hc, pk_vs]
      · rw [hc, er]
        exact zc_ret
    refine br_t x ⟨65 - fr + 1, ?_⟩
    have kk := zc_X10 (post := fun r u' => wpY_shiftFrom (fun r' v' => r' = r ∧ i_Rel (k + 5) u' v') (nI R, nI (C + 1), nI L, st, en, ha, ty, su, mf, dr) (nI fr) D) (fL := nI L) (fR := nI R) (fC := nI C) (ro := ro) (su := su) (mf := mf) (mp := mp) g (goalY _ (zc_sh_in (Nat.le_refl fr) (by omega))) (65 - fr) fr (by omega) (Nat.le_refl fr)
    rw [zc_sh_0] at kk
    exact kk
  · have x : ¬ nI fr ≤ 64 := nI_ge (a := 64) (by omega) (by omega)
    exact br_f x (br_f x ⟨rfl, hr⟩)
end
section
/-! handlerFor: the walk up from a class, as a pure function with fuel -/
def zc_bw (sf : Nat → Nat) (t : Nat) : Nat → Nat → Bool
  | 0, _ => false
  | f + 1, c => if c = 0 then false else if c = t then true else zc_bw sf t f (sf c)
def zc_sf (C : Nat) (su : Nat → Int32) (sf : Nat → Nat) : Prop := ∀ c, 1 ≤ c → c ≤ C → sf c < c ∧ su c = nI (sf c)
theorem zc_sup_fn {C : Nat} {su : Nat → Int32} (hC : C ≤ 5) (h : zc_sup C su) : ∃ sf : Nat → Nat, zc_sf C su sf := by
  refine ⟨fun c => (su c).toNatClampNeg, fun c h1 h2 => ?_⟩
  obtain ⟨s, hs, e⟩ := h c h1 h2
  dsimp only
  rw [e, nI_clamp (by omega)]
  exact ⟨hs, rfl⟩
theorem zc_bw_z {sf : Nat → Nat} {t f : Nat} : zc_bw sf t f 0 = false := by
  cases f with
  | zero => rfl
  | succ f => exact if_pos rfl
theorem zc_bw_t {sf : Nat → Nat} {t f : Nat} (ht : t ≠ 0) : zc_bw sf t (f + 1) t = true := by
  rw [zc_bw, if_neg ht, if_pos rfl]
theorem zc_bw_s {sf : Nat → Nat} {t f c : Nat} (h0 : c ≠ 0) (ht : c ≠ t) : zc_bw sf t (f + 1) c = zc_bw sf t f (sf c) := by
  rw [zc_bw, if_neg h0, if_neg ht]
theorem zc_bw_f {C : Nat} {su : Nat → Int32} {sf : Nat → Nat} {t : Nat} (hs : zc_sf C su sf) : ∀ f g c, c ≤ C → c ≤ f → c ≤ g → zc_bw sf t f c = zc_bw sf t g c := by
  intro f
  induction f with
  | zero =>
    intro g c _ hf _
    have e : c = 0 := by omega
    subst e
    rw [zc_bw_z, zc_bw_z]
  | succ f ih =>
    intro g c hC hf hg
    by_cases e : c = 0
    · subst e; rw [zc_bw_z, zc_bw_z]
    · obtain ⟨g', rfl⟩ : ∃ g', g = g' + 1 := ⟨g - 1, by omega⟩
      by_cases et : c = t
      · subst et; rw [zc_bw_t e, zc_bw_t e]
      · have k := (hs c (by omega) hC).1
        rw [zc_bw_s e et, zc_bw_s e et, ih g' (sf c) (by omega) (by omega) (by omega)]
theorem zc_bw_lt {C : Nat} {su : Nat → Int32} {sf : Nat → Nat} {t : Nat} (hs : zc_sf C su sf) : ∀ f c, c ≤ C → c < t → zc_bw sf t f c = false := by
  intro f
  induction f with
  | zero => intro c _ _; rfl
  | succ f ih =>
    intro c hC hc
    by_cases e : c = 0
    · subst e; exact zc_bw_z
    · have k := (hs c (by omega) hC).1
      rw [zc_bw_s e (by omega)]
      exact ih (sf c) (by omega) (by omega)
/-- the step at one fuel: 6 is enough for 5 classes -/
theorem zc_bw_6 {C : Nat} {su : Nat → Int32} {sf : Nat → Nat} {t c : Nat} (hs : zc_sf C su sf) (hC : C ≤ 5) (hc : c ≤ C) (h0 : c ≠ 0) (ht : c ≠ t) : zc_bw sf t 6 c = zc_bw sf t 6 (sf c) := by
  have k := (hs c (by omega) hc).1
  rw [show (6 : Nat) = 5 + 1 from rfl, zc_bw_s h0 ht]
  exact zc_bw_f hs 5 6 (sf c) (by omega) (by omega) (by omega)
/-- X's inner loop -/
theorem zc_X121 {post J : Int32 → Prop} {x1 x2 x3 x4 fL fR fC : Int32} {ro su mf mp : Nat → Int32} {C t : Nat} {sf : Nat → Nat} (hs : zc_sf C su sf) (hC : C ≤ 5) (ht : t ≤ 5) (hv : vp_in (x4 + 2) 16) :
    ∀ f c, c ≤ C → c ≤ f → (zc_bw sf t 6 c = true → post (ro (x4 + 2).toNatClampNeg)) → (zc_bw sf t 6 c = false → J (x3 + 1)) →
    wX_handlerFor_121 post J x1 x2 x3 x4 (nI t) fL fR fC ro su mf mp (f + 1) (nI c) := by
  intro f
  induction f with
  | zero =>
    intro c _ hf _ hJ
    have e : c = 0 := by omega
    subst e
    exact br_t (nI_le (b := 0) (Nat.le_refl 0) (by omega)) (nm_e (hJ zc_bw_z))
  | succ f ih =>
    intro c hc hf hp hJ
    by_cases e : c = 0
    · subst e
      exact br_t (nI_le (b := 0) (Nat.le_refl 0) (by omega)) (nm_e (hJ zc_bw_z))
    · have n0 : ¬ nI c ≤ 0 := nI_nle (by omega) (by omega)
      by_cases et : c = t
      · subst et
        exact br_f n0 (br_t rfl ⟨hv, hp (zc_bw_t (f := 5) e)⟩)
      · obtain ⟨k1, k2⟩ := hs c (by omega) hc
        have nt : ¬ nI c = nI t := fun z => et ((nI_eq (by omega) (by omega)).mp z)
        rw [zc_bw_6 hs hC hc e et] at hp hJ
        refine br_f n0 (br_f nt ⟨vp_in_nI (by omega) (by omega), nm_r (e' := nI (sf c)) ?_ (br_t (nI_lt k1 (by omega)) (ih (sf c) (by omega) (by omega) hp hJ))⟩)
        rw [nI_clamp (by omega), k2]
/-! bits -/
theorem zc_bt1 : ∀ i, i < 32 → bt 1 i = decide (i = 0) := by decide +kernel
theorem zc_and1 (y : Int32) : (y &&& 1) = 0 ↔ bt y 0 = false := by
  constructor
  · intro h
    have k := b_and y 1 0
    rw [h, b_0, zc_bt1 0 (by omega)] at k
    simpa using k.symm
  · intro h
    apply b_ext
    intro i hi
    rw [b_and, b_0, zc_bt1 i hi]
    by_cases e : i = 0
    · subst e; rw [h]; rfl
    · simp [e]
theorem zc_bit {x : Int32} {j : Nat} (hj : j < 32) : (((x.toUInt32 >>> ((nI j).toUInt32 &&& Int32.toUInt32 31)).toInt32) &&& 1) = 0 ↔ bt x j = false := by
  rw [zc_and1, b_ushr j hj, Nat.add_zero]
theorem zc_one {k b : Nat} (hk : k < 32) (hb : b < 32) : bt ((1 : Int32) <<< (nI k &&& 31)) b = decide (b = k) := by
  rw [b_shl k hk 1 hb]
  rcases Nat.lt_trichotomy b k with h | h | h
  · rw [decide_eq_false (by omega : ¬ k ≤ b), decide_eq_false (by omega : ¬ b = k)]; rfl
  · subst h
    rw [Nat.sub_self, zc_bt1 0 (by omega)]
    simp
  · rw [zc_bt1 (b - k) (by omega), decide_eq_false (by omega : ¬ b - k = 0), decide_eq_false (by omega : ¬ b = k), Bool.and_false]
/-- Y's below: its set holds, of the numbers below k, those that reach t -/
theorem zc_Y9 {post : Int32 → Prop} {f1 f2 f3 : Int32} {st en ha ty su mf dr : Nat → Int32} {C t th : Nat} {sf : Nat → Nat} (hs : zc_sf C su sf) (hC : C ≤ 5) (hth : th ≤ C)
    (h1 : zc_bw sf t 6 th = true → post 1) (h0 : zc_bw sf t 6 th = false → post 0) :
    ∀ n k (x : Int32), t < k → k ≤ 6 → th + 1 - k < n → (∀ b, b < k → bt x b = zc_bw sf t 6 b) → (∀ b, k ≤ b → b < 32 → bt x b = false) → wY_below_9 post (nI th) f1 f2 f3 st en ha ty su mf dr n x (nI k) := by
  intro n
  induction n with
  | zero => intro k x _ _ h _ _; exact absurd h (by omega)
  | succ n ih =>
    intro k x hk hk6 hn hlo hhi
    by_cases g : th < k
    · refine br_t (nI_lt g (by omega)) ?_
      have e := hlo th g
      by_cases b : bt x th = false
      · exact br_t ((zc_bit (by omega)).mpr b) (h0 (e.symm.trans b))
      · exact br_f (fun z => b ((zc_bit (by omega)).mp z)) (h1 (e.symm.trans (by simpa using b)))
    · obtain ⟨k1, k2⟩ := hs k (by omega) (by omega)
      have es : su (nI k).toNatClampNeg = nI (sf k) := by rw [nI_clamp (by omega)]; exact k2
      have e := hlo (sf k) k1
      have ek : zc_bw sf t 6 k = zc_bw sf t 6 (sf k) := zc_bw_6 hs hC (by omega) (by omega) (by omega)
      refine br_f (nI_nlt (by omega) (by omega)) ⟨vp_in_nI (by omega) (by omega), ?_⟩
      rw [es]
      by_cases b : bt x (sf k) = false
      · refine br_t ((zc_bit (by omega)).mpr b) (nm_r (nI_1 k) (ih (k + 1) x (by omega) (by omega) (by omega) ?_ ?_))
        · intro c hc
          by_cases ec : c = k
          · subst ec; rw [hhi c (by omega) (by omega), ek, ← e, b]
          · exact hlo c (by omega)
        · intro c hc hc'; exact hhi c (by omega) hc'
      · have b' : bt x (sf k) = true := by simpa using b
        refine br_f (fun z => b ((zc_bit (by omega)).mp z)) (nm_e (nm_r (nI_1 k) (ih (k + 1) _ (by omega) (by omega) (by omega) ?_ ?_)))
        · intro c hc
          rw [b_or, zc_one (by omega) (by omega)]
          by_cases ec : c = k
          · subst ec; rw [ek, ← e, b']; simp
          · rw [hlo c (by omega), decide_eq_false ec, Bool.or_false]
        · intro c hc hc'
          rw [b_or, zc_one (by omega) hc', hhi c (by omega) hc', decide_eq_false (by omega : ¬ c = k)]
          rfl
theorem zc_below {post : Int32 → Prop} {f1 f2 f3 : Int32} {st en ha ty su mf dr : Nat → Int32} {C t th : Nat} {sf : Nat → Nat} (hs : zc_sf C su sf) (hC : C ≤ 5) (hth : th ≤ C) (ht1 : 1 ≤ t) (ht : t ≤ C)
    (h1 : zc_bw sf t 6 th = true → post 1) (h0 : zc_bw sf t 6 th = false → post 0) :
    wpY_below post (f1, f2, f3, st, en, ha, ty, su, mf, dr) (nI t) (nI th) := by
  refine nm_e (nm_r (nI_1 t) ⟨7, zc_Y9 hs hC hth h1 h0 7 (t + 1) _ (by omega) (by omega) (by omega) ?_ ?_⟩)
  · intro b hb
    rw [zc_one (by omega) (by omega)]
    by_cases e : b = t
    · subst e
      rw [decide_eq_true rfl]
      exact (zc_bw_t (f := 5) (by omega)).symm
    · rw [decide_eq_false e, zc_bw_lt hs 6 b (by omega) (by omega)]
  · intro b hb hb'
    rw [zc_one (by omega) hb', decide_eq_false (by omega : ¬ b = t)]
end
section
/-! handlerFor: one row's answer, the scan -/
def zc_ans (pc th : Nat) (sf : Nat → Nat) (mf : Nat → Int32) (s e h t : Nat) : Option Int32 :=
  if pc < s then none else if e ≤ pc then none else if t = 0 then some (nI h) else if mf t = 0 then (if zc_bw sf t 6 th = true then some (nI h) else none) else some (-2)
def zc_G (A : Nat → Option Int32) : Nat → Nat → Int32
  | 0, _ => -1
  | d + 1, i => (A i).getD (zc_G A d (i + 1))
theorem zc_G_s {A : Nat → Option Int32} {d i : Nat} {a : Int32} (h : A i = some a) : zc_G A (d + 1) i = a := by rw [zc_G, h]; rfl
theorem zc_G_n {A : Nat → Option Int32} {d i : Nat} (h : A i = none) : zc_G A (d + 1) i = zc_G A d (i + 1) := by rw [zc_G, h]; rfl
section
variable {pc th L R C : Nat} {sf : Nat → Nat} {ro st en ha ty su mf mp dr : Nat → Int32} {S E H T : Nat → Nat}
/-- X's scan -/
theorem zc_X42 {post : Int32 → Prop} {fL fC : Int32} (hs : zc_sf C su sf) (hL : L ≤ 64) (hC : C ≤ 5) (hR : R ≤ 4) (hpc : pc < L) (hth : th ≤ C)
    (hrow : ∀ i, i < R → zc_rowF L C ro st en ha ty S E H T i) :
    ∀ d i n, i + d = R → d < n → post (zc_G (fun i => zc_ans pc th sf mf (S i) (E i) (H i) (T i)) d i) → wX_handlerFor_42 post (nI pc) (nI th) fL (nI R) fC ro su mf mp n (nI i) := by
  intro d
  induction d with
  | zero =>
    intro i n hi hn hp
    obtain ⟨n, rfl⟩ : ∃ m, n = m + 1 := ⟨n - 1, by omega⟩
    exact br_t (nI_le (by omega) (by omega)) hp
  | succ d ih =>
    intro i n hi hn hp
    obtain ⟨n, rfl⟩ : ∃ m, n = m + 1 := ⟨n - 1, by omega⟩
    have hF := hrow i (by omega)
    obtain ⟨⟨v0, v1, v2, v3⟩, r0, r1, r2, r3⟩ := zc_rX hF (by omega)
    obtain ⟨a1, a2, a3, a4, -⟩ := hF
    refine br_f (nI_ge (by omega) (by omega)) (nm_r (zc_4 i) ⟨v0, ?_⟩)
    rw [r0, r1]
    by_cases g1 : pc < S i
    · refine br_t (nI_lt g1 (by omega)) (nm_r (nI_1 i) (ih (i + 1) n (by omega) (by omega) ?_))
      rw [← zc_G_n (A := fun i => zc_ans pc th sf mf (S i) (E i) (H i) (T i)) (i := i) (if_pos g1)]
      exact hp
    by_cases g2 : E i ≤ pc
    · refine br_f (nI_nlt (by omega) (by omega)) ⟨v1, br_t (nI_le g2 (by omega)) (nm_r (nI_1 i) (ih (i + 1) n (by omega) (by omega) ?_))⟩
      rw [← zc_G_n (A := fun i => zc_ans pc th sf mf (S i) (E i) (H i) (T i)) (i := i) (by rw [zc_ans, if_neg g1, if_pos g2])]
      exact hp
    refine br_f (nI_nlt (by omega) (by omega)) ⟨v1, br_f (nI_ge (by omega) (by omega)) ⟨v3, nm_r r3 ?_⟩⟩
    by_cases g3 : T i = 0
    · refine br_t (by rw [g3]; rfl) ⟨v2, ?_⟩
      rw [zc_G_s (A := fun i => zc_ans pc th sf mf (S i) (E i) (H i) (T i)) (i := i) (by rw [zc_ans, if_neg g1, if_neg g2, if_pos g3])] at hp
      rw [r2]
      exact hp
    refine br_f (nI_ne0 (by omega) (by omega)) ⟨vp_in_nI (by omega) (by omega), ?_⟩
    have ec : (nI (T i)).toNatClampNeg = T i := nI_clamp (by omega)
    by_cases g4 : mf (T i) = 0
    · refine br_t (by rw [ec]; exact g4) ⟨th + 1, zc_X121 hs hC (by omega) v2 th th hth (Nat.le_refl th) ?_ ?_⟩
      · intro hb
        rw [zc_G_s (A := fun i => zc_ans pc th sf mf (S i) (E i) (H i) (T i)) (i := i) (by rw [zc_ans, if_neg g1, if_neg g2, if_neg g3, if_pos g4, if_pos hb])] at hp
        rw [r2]
        exact hp
      · intro hb
        rw [nI_1]
        refine ih (i + 1) n (by omega) (by omega) ?_
        rw [← zc_G_n (A := fun i => zc_ans pc th sf mf (S i) (E i) (H i) (T i)) (i := i) (by rw [zc_ans, if_neg g1, if_neg g2, if_neg g3, if_pos g4, if_neg (by rw [hb]; decide)])]
        exact hp
    · refine br_f (by rw [ec]; exact g4) ?_
      rw [zc_G_s (A := fun i => zc_ans pc th sf mf (S i) (E i) (H i) (T i)) (i := i) (by rw [zc_ans, if_neg g1, if_neg g2, if_neg g3, if_neg g4])] at hp
      exact hp
/-- Y's scan, from the last row down -/
theorem zc_Y50 {post : Int32 → Prop} {f2 f3 : Int32} (hs : zc_sf C su sf) (hL : L ≤ 64) (hC : C ≤ 5) (hR : R ≤ 4) (hpc : pc < L) (hth : th ≤ C)
    (hrow : ∀ i, i < R → zc_rowF L C ro st en ha ty S E H T i) (hp : post (zc_G (fun i => zc_ans pc th sf mf (S i) (E i) (H i) (T i)) R 0)) :
    ∀ i d n x, i + d = R → i < n → x = zc_G (fun i => zc_ans pc th sf mf (S i) (E i) (H i) (T i)) d i → wY_handlerFor_50 post (nI pc) (nI th) (nI R) f2 f3 st en ha ty su mf dr n x (nI i + (-1)) := by
  intro i
  induction i with
  | zero =>
    intro d n x hd hn hx
    obtain ⟨n, rfl⟩ : ∃ m, n = m + 1 := ⟨n - 1, by omega⟩
    have e : d = R := by omega
    subst e
    refine br_t (by decide) ?_
    rw [hx]
    exact hp
  | succ i ih =>
    intro d n x hd hn hx
    obtain ⟨n, rfl⟩ : ∃ m, n = m + 1 := ⟨n - 1, by omega⟩
    have hF := hrow i (by omega)
    obtain ⟨v0, r0, r1, r2, r3⟩ := zc_rY hF (by omega)
    obtain ⟨a1, a2, a3, a4, -⟩ := hF
    have ec : (nI (T i)).toNatClampNeg = T i := nI_clamp (by omega)
    rw [pk_m1]
    refine br_f (nI_pos (by omega)) ⟨v0, ?_⟩
    rw [r0, r1]
    by_cases g1 : pc < S i
    · refine br_t (nI_lt g1 (by omega)) (nm_e (ih (d + 1) n x (by omega) (by omega) ?_))
      rw [zc_G_n (A := fun i => zc_ans pc th sf mf (S i) (E i) (H i) (T i)) (i := i) (if_pos g1)]
      exact hx
    by_cases g2 : E i ≤ pc
    · refine br_f (nI_nlt (by omega) (by omega)) ⟨v0, br_t (nI_le g2 (by omega)) (nm_e (ih (d + 1) n x (by omega) (by omega) ?_))⟩
      rw [zc_G_n (A := fun i => zc_ans pc th sf mf (S i) (E i) (H i) (T i)) (i := i) (by rw [zc_ans, if_neg g1, if_pos g2])]
      exact hx
    refine br_f (nI_nlt (by omega) (by omega)) ⟨v0, br_f (nI_ge (by omega) (by omega)) ⟨v0, nm_r r3 ?_⟩⟩
    by_cases g3 : T i = 0
    · refine br_t (by rw [g3]; rfl) ⟨v0, nm_r r2 (nm_e (ih (d + 1) n _ (by omega) (by omega) ?_))⟩
      rw [zc_G_s (A := fun i => zc_ans pc th sf mf (S i) (E i) (H i) (T i)) (i := i) (by rw [zc_ans, if_neg g1, if_neg g2, if_pos g3])]
    refine br_f (nI_ne0 (by omega) (by omega)) ⟨vp_in_nI (by omega) (by omega), ?_⟩
    by_cases g4 : mf (T i) = 0
    · refine br_t (by rw [ec]; exact g4) (zc_below hs hC hth (by omega) a4 ?_ ?_)
      · intro hb
        refine br_f (by decide) ⟨v0, nm_r r2 (nm_e (ih (d + 1) n _ (by omega) (by omega) ?_))⟩
        rw [zc_G_s (A := fun i => zc_ans pc th sf mf (S i) (E i) (H i) (T i)) (i := i) (by rw [zc_ans, if_neg g1, if_neg g2, if_neg g3, if_pos g4, if_pos hb])]
      · intro hb
        refine br_t rfl (nm_e (ih (d + 1) n x (by omega) (by omega) ?_))
        rw [zc_G_n (A := fun i => zc_ans pc th sf mf (S i) (E i) (H i) (T i)) (i := i) (by rw [zc_ans, if_neg g1, if_neg g2, if_neg g3, if_pos g4, if_neg (by rw [hb]; decide)])]
        exact hx
    · refine br_f (by rw [ec]; exact g4) (nm_e (ih (d + 1) n _ (by omega) (by omega) ?_))
      rw [zc_G_s (A := fun i => zc_ans pc th sf mf (S i) (E i) (H i) (T i)) (i := i) (by rw [zc_ans, if_neg g1, if_neg g2, if_neg g3, if_neg g4])]
end
theorem zc_pos {x : Int32} (h : ¬ x < 1) : ¬ x < 0 := by
  rw [Int32.lt_iff_toInt_lt] at h ⊢
  have a : (1 : Int32).toInt = 1 := by decide
  have b : (0 : Int32).toInt = 0 := by decide
  omega
theorem i_vc_handlerFor {k : Nat} {u : SX} {v : SY} (I : i_Rel k u v) (hk : k + 5 ≤ 2561) (v1 : Int32) (v2 : Int32) : wpX_handlerFor (fun r => wpY_handlerFor (fun r' => r' = r ∧ i_Rel (k + 5) u v) v v1 v2) u v1 v2 := by
  refine zc_el (P := fun u v => wpX_handlerFor (fun r => wpY_handlerFor (fun r' => r' = r ∧ i_Rel (k + 5) u v) v v1 v2) u v1 v2) I ?_
  intro L R C ro st en ha ty su mf mp dr h1 h2 h3 h4 h5 h6 h7
  have hr := zc_rel (k := k + 5) (mf := mf) h1 h2 h3 h4 h5 h6 h7
  by_cases a0 : v1 < 0
  · exact br_t a0 (br_t a0 ⟨rfl, hr⟩)
  by_cases a1 : v1 < nI L
  · by_cases b0 : v2 < 1
    · exact br_f a0 (br_t a1 (br_t b0 (br_f a0 (br_t a1 (br_t b0 ⟨rfl, hr⟩)))))
    obtain ⟨th, hth, rfl⟩ := nI_of (zc_pos b0)
    obtain ⟨pc, hpc, rfl⟩ := nI_of a0
    have hpL : pc < L := (nI_ltI hpc (by omega)).mp a1
    by_cases g : C < th
    · have x1 : nI C < nI th := nI_lt g hth
      have y1 : nI (C + 1) ≤ nI th := nI_le (by omega) hth
      exact br_f a0 (br_t a1 (br_f b0 (br_t x1 (br_f a0 (br_t a1 (br_f b0 (br_t y1 ⟨rfl, hr⟩)))))))
    have x1 : ¬ nI C < nI th := nI_nlt (by omega) (by omega)
    have y1 : ¬ nI (C + 1) ≤ nI th := nI_ge (by omega) (by omega)
    have hi : vp_in (nI th) 6 := vp_in_nI (by omega) (by omega)
    by_cases hm : mf (nI th).toNatClampNeg = 0
    · obtain ⟨S, E, H, T, hrow⟩ := zc_rows h2 h4 h5
      obtain ⟨sf, hs⟩ := zc_sup_fn h4 h6
      refine br_f a0 (br_t a1 (br_f b0 (br_f x1 ⟨hi, br_t hm ⟨R + 1, ?_⟩⟩)))
      refine zc_X42 hs h2 h4 h3 hpL (by omega) hrow R 0 (R + 1) (by omega) (by omega) ?_
      refine br_f a0 (br_t a1 (br_f b0 (br_f y1 ⟨hi, br_t hm (nm_r (e' := nI R + (-1)) (Int32.sub_eq_add_neg _ _) ⟨R + 1, ?_⟩)⟩)))
      exact zc_Y50 hs h2 h4 h3 hpL (by omega) hrow ⟨rfl, hr⟩ R 0 (R + 1) (-1) (by omega) (by omega) rfl
    · exact br_f a0 (br_t a1 (br_f b0 (br_f x1 ⟨hi, br_f hm (br_f a0 (br_t a1 (br_f b0 (br_f y1 ⟨hi, br_f hm ⟨rfl, hr⟩⟩))))⟩)))
  · exact br_f a0 (br_f a1 (br_f a0 (br_f a1 ⟨rfl, hr⟩)))
end
section
/-! rowRemovable -/
/-- pc lies in a catch-all row before j -/
def zc_shd (S E T : Nat → Nat) (pc j : Nat) : Prop := ∃ q, q < j ∧ T q = 0 ∧ S q ≤ pc ∧ pc < E q
theorem zc_shd_n {S E T : Nat → Nat} {pc j : Nat} {x : Int32} (h : x = 0 ↔ ¬ zc_shd S E T pc j) (hn : ¬ (T j = 0 ∧ S j ≤ pc ∧ pc < E j)) : x = 0 ↔ ¬ zc_shd S E T pc (j + 1) := by
  rw [h]
  constructor
  · rintro k ⟨q, hq, r⟩
    by_cases e : q = j
    · subst e; exact hn r
    · exact k ⟨q, by omega, r⟩
  · rintro k ⟨q, hq, r⟩
    exact k ⟨q, by omega, r⟩
theorem zc_shd_y {S E T : Nat → Nat} {pc j : Nat} (hy : T j = 0 ∧ S j ≤ pc ∧ pc < E j) : (1 : Int32) = 0 ↔ ¬ zc_shd S E T pc (j + 1) :=
  ⟨fun z => absurd z (by decide), fun z => absurd ⟨j, by omega, hy⟩ z⟩
/-- the bit of a pc in the mask, as both walks ask it -/
def zc_bz (a : Int64) (x : Int32) : Prop := (((a.toUInt64 >>> (x.toInt64.toUInt64 &&& Int64.toUInt64 63)).toInt64) &&& 1) = 0
def zc_bad (S E T : Nat → Nat) (a : Int64) (i q : Nat) : Prop := ¬ zc_bz a (nI q) ∧ ¬ zc_shd S E T q i
section
variable {L R C : Nat} {ro st en ha ty su mf mp dr : Nat → Int32} {S E H T : Nat → Nat} {a : Int64} {i pc : Nat}
theorem zc_X93 {post J : Int32 → Prop} {x6 fL fR fC : Int32} (hrow : ∀ i, i < R → zc_rowF L C ro st en ha ty S E H T i) (hL : L ≤ 64) (hC : C ≤ 5) (hR : R ≤ 4) (hi : i < R) (hpc : pc < 64)
    (hJ : zc_shd S E T pc i → J (nI (pc + 1))) (h0 : ¬ zc_shd S E T pc i → post 0) :
    ∀ d j n x8, j + d = i → d < n → (x8 = 0 ↔ ¬ zc_shd S E T pc j) → wX_rowRemovable_93 post J (nI i) a x6 (nI pc) fL fR fC ro su mf mp n x8 (nI j) := by
  intro d
  induction d with
  | zero =>
    intro j n x8 hj hn hx
    obtain ⟨n, rfl⟩ : ∃ m, n = m + 1 := ⟨n - 1, by omega⟩
    have e : j = i := by omega
    subst e
    refine br_t (nI_le (Nat.le_refl _) (by omega)) ?_
    by_cases g : x8 = 0
    · exact br_t g (h0 (hx.mp g))
    · exact br_f g (nm_r (nI_1 pc) (hJ (Classical.byContradiction (fun z => g (hx.mpr z)))))
  | succ d ih =>
    intro j n x8 hj hn hx
    obtain ⟨n, rfl⟩ : ∃ m, n = m + 1 := ⟨n - 1, by omega⟩
    have hF := hrow j (by omega)
    obtain ⟨⟨v0, v1, v2, v3⟩, r0, r1, r2, r3⟩ := zc_rX hF (by omega)
    obtain ⟨a1, a2, a3, a4, -⟩ := hF
    refine br_f (nI_ge (by omega) (by omega)) (nm_r (zc_4 j) ⟨v3, ?_⟩)
    rw [r0, r1, r3]
    by_cases g1 : T j = 0
    · refine br_t (by rw [g1]; rfl) ⟨v0, ?_⟩
      by_cases g2 : pc < S j
      · exact br_t (nI_lt g2 (by omega)) (nm_r (nI_1 j) (ih (j + 1) n x8 (by omega) (by omega) (zc_shd_n hx (fun z => absurd z.2.1 (by omega)))))
      · refine br_f (nI_nlt (by omega) (by omega)) ⟨v1, ?_⟩
        by_cases g3 : E j ≤ pc
        · exact br_t (nI_le g3 (by omega)) (nm_r (nI_1 j) (ih (j + 1) n x8 (by omega) (by omega) (zc_shd_n hx (fun z => absurd z.2.2 (by omega)))))
        · exact br_f (nI_ge (by omega) (by omega)) (nm_r (nI_1 j) (ih (j + 1) n 1 (by omega) (by omega) (zc_shd_y ⟨g1, by omega, by omega⟩)))
    · exact br_f (nI_ne0 (by omega) (by omega)) (nm_r (nI_1 j) (ih (j + 1) n x8 (by omega) (by omega) (zc_shd_n hx (fun z => g1 z.1))))
theorem zc_Y50r {post J : Int32 → Prop} {f1 f2 f3 : Int32} (hrow : ∀ i, i < R → zc_rowF L C ro st en ha ty S E H T i) (hL : L ≤ 64) (hC : C ≤ 5) (hR : R ≤ 4) (hi : i < R) (hpc : pc < 64)
    (hJ : zc_shd S E T pc i → J (nI (pc + 1))) (h0 : ¬ zc_shd S E T pc i → post 0) :
    ∀ d j n x5, j + d = i → d < n → (x5 = 0 ↔ ¬ zc_shd S E T pc j) → wY_rowRemovable_50 post J (nI i) a (nI pc) f1 f2 f3 st en ha ty su mf dr n x5 (nI j) := by
  intro d
  induction d with
  | zero =>
    intro j n x5 hj hn hx
    obtain ⟨n, rfl⟩ : ∃ m, n = m + 1 := ⟨n - 1, by omega⟩
    have e : j = i := by omega
    subst e
    refine br_t (nI_le (Nat.le_refl _) (by omega)) ?_
    by_cases g : x5 = 0
    · exact br_t g (h0 (hx.mp g))
    · exact br_f g (nm_r (nI_1 pc) (hJ (Classical.byContradiction (fun z => g (hx.mpr z)))))
  | succ d ih =>
    intro j n x5 hj hn hx
    obtain ⟨n, rfl⟩ : ∃ m, n = m + 1 := ⟨n - 1, by omega⟩
    have hF := hrow j (by omega)
    obtain ⟨v0, r0, r1, r2, r3⟩ := zc_rY hF (by omega)
    obtain ⟨a1, a2, a3, a4, -⟩ := hF
    refine br_f (nI_ge (by omega) (by omega)) ⟨v0, ?_⟩
    rw [r0, r1, r3]
    by_cases g1 : T j = 0
    · refine br_t (by rw [g1]; rfl) ⟨v0, ?_⟩
      by_cases g2 : pc < S j
      · exact br_t (nI_lt g2 (by omega)) (nm_r (nI_1 j) (ih (j + 1) n x5 (by omega) (by omega) (zc_shd_n hx (fun z => absurd z.2.1 (by omega)))))
      · refine br_f (nI_nlt (by omega) (by omega)) ⟨v0, ?_⟩
        by_cases g3 : E j ≤ pc
        · exact br_t (nI_le g3 (by omega)) (nm_r (nI_1 j) (ih (j + 1) n x5 (by omega) (by omega) (zc_shd_n hx (fun z => absurd z.2.2 (by omega)))))
        · exact br_f (nI_ge (by omega) (by omega)) (nm_r (nI_1 j) (ih (j + 1) n 1 (by omega) (by omega) (zc_shd_y ⟨g1, by omega, by omega⟩)))
    · exact br_f (nI_ne0 (by omega) (by omega)) (nm_r (nI_1 j) (ih (j + 1) n x5 (by omega) (by omega) (zc_shd_n hx (fun z => g1 z.1))))
theorem zc_shd0 {S E T : Nat → Nat} {pc : Nat} : (0 : Int32) = 0 ↔ ¬ zc_shd S E T pc 0 :=
  ⟨fun _ z => by obtain ⟨q, hq, -⟩ := z; omega, fun _ => rfl⟩
theorem zc_X62 {post : Int32 → Prop} {fL fR fC : Int32} (hrow : ∀ i, i < R → zc_rowF L C ro st en ha ty S E H T i) (hL : L ≤ 64) (hC : C ≤ 5) (hR : R ≤ 4) (hi : i < R)
    (h0 : (∃ q, S i ≤ q ∧ q < E i ∧ zc_bad S E T a i q) → post 0) (h1 : (¬ ∃ q, S i ≤ q ∧ q < E i ∧ zc_bad S E T a i q) → post 1) :
    ∀ d j n, j + d = E i → S i ≤ j → d < n → (∀ q, S i ≤ q → q < j → ¬ zc_bad S E T a i q) → wX_rowRemovable_62 post (nI i) a (nI (E i)) fL fR fC ro su mf mp n (nI j) := by
  have hE : E i ≤ 64 := Nat.le_trans (hrow i hi).2.1 hL
  intro d
  induction d with
  | zero =>
    intro j n hj hs hn hq
    obtain ⟨n, rfl⟩ : ∃ m, n = m + 1 := ⟨n - 1, by omega⟩
    refine br_t (nI_le (by omega) (by omega)) (h1 ?_)
    rintro ⟨q, q1, q2, q3⟩
    exact hq q q1 (by omega) q3
  | succ d ih =>
    intro j n hj hs hn hq
    obtain ⟨n, rfl⟩ : ∃ m, n = m + 1 := ⟨n - 1, by omega⟩
    refine br_f (nI_ge (by omega) (by omega)) (br_f (nI_ge (b := 64) (by omega) (by omega)) ?_)
    have nx : ¬ zc_bad S E T a i j → wX_rowRemovable_62 post (nI i) a (nI (E i)) fL fR fC ro su mf mp n (nI (j + 1)) := by
      intro hb
      refine ih (j + 1) n (by omega) (by omega) (by omega) (fun q q1 q2 => ?_)
      by_cases e : q = j
      · subst e; exact hb
      · exact hq q q1 (by omega)
    by_cases g : zc_bz a (nI j)
    · exact br_t g (nm_r (nI_1 j) (nx (fun z => z.1 g)))
    · exact br_f g ⟨i + 1, zc_X93 hrow hL hC hR hi (by omega) (fun z => nx (fun y => y.2 z)) (fun z => h0 ⟨j, hs, by omega, g, z⟩) i 0 (i + 1) 0 (by omega) (by omega) zc_shd0⟩
theorem zc_Y22 {post : Int32 → Prop} {f1 f2 f3 : Int32} (hrow : ∀ i, i < R → zc_rowF L C ro st en ha ty S E H T i) (hL : L ≤ 64) (hC : C ≤ 5) (hR : R ≤ 4) (hi : i < R)
    (h0 : (∃ q, S i ≤ q ∧ q < E i ∧ zc_bad S E T a i q) → post 0) (h1 : (¬ ∃ q, S i ≤ q ∧ q < E i ∧ zc_bad S E T a i q) → mf (T i) = 0 → post 1) (h2 : (¬ ∃ q, S i ≤ q ∧ q < E i ∧ zc_bad S E T a i q) → ¬ mf (T i) = 0 → post 0) :
    ∀ d j n, j + d = E i → S i ≤ j → d < n → (∀ q, S i ≤ q → q < j → ¬ zc_bad S E T a i q) → wY_rowRemovable_22 post (nI i) a f1 f2 f3 st en ha ty su mf dr n (nI j) := by
  have hF := hrow i hi
  obtain ⟨v0, r0, r1, r2, r3⟩ := zc_rY hF (by omega)
  obtain ⟨a1, a2, a3, a4, -⟩ := hF
  have ec : (nI (T i)).toNatClampNeg = T i := nI_clamp (by omega)
  intro d
  induction d with
  | zero =>
    intro j n hj hs hn hq
    obtain ⟨n, rfl⟩ : ∃ m, n = m + 1 := ⟨n - 1, by omega⟩
    refine ⟨v0, ?_⟩
    rw [r1, r3, ec]
    have nb : ¬ ∃ q, S i ≤ q ∧ q < E i ∧ zc_bad S E T a i q := by
      rintro ⟨q, q1, q2, q3⟩
      exact hq q q1 (by omega) q3
    exact br_t (nI_le (by omega) (by omega)) ⟨v0, vp_in_nI (by omega) (by omega), br_c (h1 nb) (h2 nb)⟩
  | succ d ih =>
    intro j n hj hs hn hq
    obtain ⟨n, rfl⟩ : ∃ m, n = m + 1 := ⟨n - 1, by omega⟩
    refine ⟨v0, ?_⟩
    rw [r1]
    refine br_f (nI_ge (by omega) (by omega)) ?_
    have nx : ¬ zc_bad S E T a i j → wY_rowRemovable_22 post (nI i) a f1 f2 f3 st en ha ty su mf dr n (nI (j + 1)) := by
      intro hb
      refine ih (j + 1) n (by omega) (by omega) (by omega) (fun q q1 q2 => ?_)
      by_cases e : q = j
      · subst e; exact hb
      · exact hq q q1 (by omega)
    by_cases g : zc_bz a (nI j)
    · exact br_t g (nm_r (nI_1 j) (nx (fun z => z.1 g)))
    · exact br_f g ⟨i + 1, zc_Y50r hrow hL hC hR hi (by omega) (fun z => nx (fun y => y.2 z)) (fun z => h0 ⟨j, hs, by omega, g, z⟩) i 0 (i + 1) 0 (by omega) (by omega) zc_shd0⟩
end
theorem i_vc_rowRemovable {k : Nat} {u : SX} {v : SY} (I : i_Rel k u v) (hk : k + 5 ≤ 2561) (v1 : Int32) (a1 : Int64) : wpX_rowRemovable (fun r => wpY_rowRemovable (fun r' => r' = r ∧ i_Rel (k + 5) u v) v v1 a1) u v1 a1 := by
  refine zc_el (P := fun u v => wpX_rowRemovable (fun r => wpY_rowRemovable (fun r' => r' = r ∧ i_Rel (k + 5) u v) v v1 a1) u v1 a1) I ?_
  intro L R C ro st en ha ty su mf mp dr h1 h2 h3 h4 h5 h6 h7
  have hr := zc_rel (k := k + 5) (mf := mf) h1 h2 h3 h4 h5 h6 h7
  by_cases a0 : v1 < 0
  · exact br_t a0 (br_t a0 ⟨rfl, hr⟩)
  by_cases b0 : v1 < nI R
  · obtain ⟨i, hi, rfl⟩ := nI_of a0
    have hiR : i < R := (nI_ltI hi (by omega)).mp b0
    obtain ⟨S, E, H, T, hrow⟩ := zc_rows h2 h4 h5
    have hF := hrow i hiR
    obtain ⟨w0, c0, c1, c2, c3⟩ := zc_rY hF (by omega)
    obtain ⟨⟨x0, x1, x2, x3⟩, r0, r1, r2, r3⟩ := zc_rX hF (by omega)
    obtain ⟨q1, q2, q3, q4, -⟩ := hF
    have ec : (nI (T i)).toNatClampNeg = T i := nI_clamp (by omega)
    have ti : vp_in (nI (T i)) 6 := vp_in_nI (by omega) (by omega)
    have Y : ∀ r : Int32, ((∃ q, S i ≤ q ∧ q < E i ∧ zc_bad S E T a1 i q) → 0 = r) → ((¬ ∃ q, S i ≤ q ∧ q < E i ∧ zc_bad S E T a1 i q) → mf (T i) = 0 → 1 = r) → ((¬ ∃ q, S i ≤ q ∧ q < E i ∧ zc_bad S E T a1 i q) → ¬ mf (T i) = 0 → 0 = r) →
        wpY_rowRemovable (fun r' => r' = r ∧ i_Rel (k + 5) (nI L, nI R, nI C, ro, su, mf, mp) (nI R, nI (C + 1), nI L, st, en, ha, ty, su, mf, dr)) (nI R, nI (C + 1), nI L, st, en, ha, ty, su, mf, dr) (nI i) a1 := by
      intro r z0 z1 z2
      refine br_f a0 (br_t b0 ⟨w0, nm_r c0 ⟨E i - S i + 1, ?_⟩⟩)
      exact zc_Y22 hrow h2 h4 h3 hiR (fun z => ⟨z0 z, hr⟩) (fun z y => ⟨z1 z y, hr⟩) (fun z y => ⟨z2 z y, hr⟩) (E i - S i) (S i) _ (by omega) (Nat.le_refl _) (by omega) (fun q g1 g2 => absurd g2 (by omega))
    refine br_f a0 (br_t b0 (nm_r (zc_4 i) ⟨x3, ?_⟩))
    rw [r3, ec]
    refine ⟨ti, ?_⟩
    by_cases hm : mf (T i) = 0
    · refine br_t hm ⟨x0, nm_r r0 ⟨x1, nm_r r1 ⟨E i - S i + 1, ?_⟩⟩⟩
      refine zc_X62 hrow h2 h4 h3 hiR (fun z => ?_) (fun z => ?_) (E i - S i) (S i) _ (by omega) (Nat.le_refl _) (by omega) (fun q g1 g2 => absurd g2 (by omega))
      · exact Y 0 (fun _ => rfl) (fun y => absurd z y) (fun y => absurd z y)
      · exact Y 1 (fun y => absurd y z) (fun _ _ => rfl) (fun _ y => absurd hm y)
    · exact br_f hm (Y 0 (fun _ => rfl) (fun _ y => absurd y hm) (fun _ _ => rfl))
  · exact br_f a0 (br_f b0 (br_f a0 (br_f b0 ⟨rfl, hr⟩)))
end
section
/-! remap: the first three stages, X and Y apart, each against pure predicates -/
def zc_mono (M : Nat → Nat) (L : Nat) : Prop := ∀ p, p < L → M p ≤ M (p + 1)
theorem zc_mono_le {M : Nat → Nat} {L : Nat} (h : zc_mono M L) {a : Nat} : ∀ d, a + d ≤ L → M a ≤ M (a + d) := by
  intro d
  induction d with
  | zero => intro _; exact Nat.le_refl _
  | succ d ih => intro hd; exact Nat.le_trans (ih (by omega)) (h (a + d) (by omega))
def zc_ok (M : Nat → Nat) (mp : Nat → Int32) : Prop := ∀ p, p ≤ 64 → mp p = nI (M p) ∧ M p < 65536
def zc_b3 (M S E H : Nat → Nat) (N q : Nat) : Prop := M (S q) < M (E q) ∧ N ≤ M (H q)
def zc_b4 (M S E T : Nat → Nat) (mf : Nat → Int32) (q : Nat) : Prop := M (S q) = M (E q) ∧ ¬ mf (T q) = 0
section
variable {L R C N : Nat} {ro st en ha ty su mf mp dr : Nat → Int32} {S E H T M : Nat → Nat}
theorem zc_mr (hM : zc_ok M mp) {x : Int32} {p : Nat} (hp : p ≤ 64) (hx : x = nI p) : vp_in x 65 ∧ mp x.toNatClampNeg = nI (M p) := by
  subst hx
  rw [nI_clamp (by omega)]
  exact ⟨vp_in_nI (by omega) (by omega), (hM p hp).1⟩
theorem zc_ma (hM : zc_ok M mp) (hm : zc_map mp dr) {post : Int32 → Prop} {f1 f2 f3 : Int32} (p : Nat) (hp : p ≤ 64) {x : Int32} (hx : x = nI p) (h : post (nI (M p))) :
    wpY_mapAt post (f1, f2, f3, st, en, ha, ty, su, mf, dr) x :=
  zc_mapAt hm p hp hx (by rw [(hM p hp).1]; exact h)
/-- stage 1: the map rises up to L, and its end lies in 1 .. 64 -/
theorem zc_X7 {post : Int32 → SX → Prop} {fL fR fC : Int32} (hM : zc_ok M mp) (hL : L ≤ 64)
    (h1 : ¬ zc_mono M L → post (-1) (fL, fR, fC, ro, su, mf, mp))
    (h2 : zc_mono M L → ¬ (1 ≤ M L ∧ M L ≤ 64) → post (-2) (fL, fR, fC, ro, su, mf, mp))
    (h3 : zc_mono M L → 1 ≤ M L ∧ M L ≤ 64 → ∃ n, wX_remap_60 post (nI (M L)) fL fR fC ro su mf mp n 0) :
    ∀ d j n, j + d = L → d < n → zc_mono M j → wX_remap_7 post (nI L) fL fR fC ro su mf mp n (nI j) := by
  intro d
  induction d with
  | zero =>
    intro j n hj hn hm
    obtain ⟨n, rfl⟩ : ∃ m, n = m + 1 := ⟨n - 1, by omega⟩
    have e : j = L := by omega
    subst e
    obtain ⟨v, r⟩ := zc_mr hM hL rfl
    have hb := (hM j hL).2
    refine br_t (nI_le (Nat.le_refl _) (by omega)) ⟨v, nm_r r ?_⟩
    by_cases g1 : M j < 1
    · exact br_t (nI_lt (b := 1) g1 (by omega)) (h2 hm (fun z => absurd z.1 (by omega)))
    · refine br_f (nI_nlt (b := 1) (by omega) (by omega)) ?_
      by_cases g2 : M j ≤ 64
      · exact br_t (nI_le (b := 64) g2 (by omega)) (h3 hm ⟨by omega, g2⟩)
      · exact br_f (nI_ge (a := 64) (by omega) (by omega)) (h2 hm (fun z => g2 z.2))
  | succ d ih =>
    intro j n hj hn hm
    obtain ⟨n, rfl⟩ : ∃ m, n = m + 1 := ⟨n - 1, by omega⟩
    obtain ⟨v, r⟩ := zc_mr hM (p := j) (by omega) rfl
    obtain ⟨v', r'⟩ := zc_mr hM (p := j + 1) (by omega) (nI_1 j)
    have b1 := (hM j (by omega)).2
    have b2 := (hM (j + 1) (by omega)).2
    refine br_f (nI_ge (by omega) (by omega)) ⟨v, v', ?_⟩
    rw [r, r']
    by_cases g : M j ≤ M (j + 1)
    · refine br_t (nI_le g (by omega)) (nm_r (nI_1 j) (ih (j + 1) n (by omega) (by omega) ?_))
      intro p hp
      by_cases e : p = j
      · subst e; exact g
      · exact hm p (by omega)
    · exact br_f (nI_ge (by omega) (by omega)) (h1 (fun z => g (z j (by omega))))
theorem zc_Y2 {post : Int32 → SY → Prop} {f1 f2 : Int32} (hM : zc_ok M mp) (hmp : zc_map mp dr) (hL : L ≤ 64)
    (h1 : ¬ zc_mono M L → post (-1) (f1, f2, nI L, st, en, ha, ty, su, mf, dr))
    (h2 : zc_mono M L → ¬ (1 ≤ M L ∧ M L ≤ 64) → post (-2) (f1, f2, nI L, st, en, ha, ty, su, mf, dr))
    (h3 : zc_mono M L → 1 ≤ M L ∧ M L ≤ 64 → ∃ n, wY_remap_58 post (nI (M L)) f1 f2 (nI L) st en ha ty su mf dr n 0) :
    ∀ d j n, j + d = L → d < n → zc_mono M j → wY_remap_2 post f1 f2 (nI L) st en ha ty su mf dr n (nI j) := by
  intro d
  induction d with
  | zero =>
    intro j n hj hn hm
    obtain ⟨n, rfl⟩ : ∃ m, n = m + 1 := ⟨n - 1, by omega⟩
    have e : j = L := by omega
    subst e
    have hb := (hM j hL).2
    refine br_t (nI_le (Nat.le_refl _) (by omega)) (zc_ma hM hmp j hL rfl ?_)
    by_cases g1 : M j < 1
    · exact br_t (nI_lt (b := 1) g1 (by omega)) (h2 hm (fun z => absurd z.1 (by omega)))
    · refine br_f (nI_nlt (b := 1) (by omega) (by omega)) ?_
      by_cases g2 : M j ≤ 64
      · exact br_t (nI_le (b := 64) g2 (by omega)) (h3 hm ⟨by omega, g2⟩)
      · exact br_f (nI_ge (a := 64) (by omega) (by omega)) (h2 hm (fun z => g2 z.2))
  | succ d ih =>
    intro j n hj hn hm
    obtain ⟨n, rfl⟩ : ∃ m, n = m + 1 := ⟨n - 1, by omega⟩
    have b1 := (hM j (by omega)).2
    have b2 := (hM (j + 1) (by omega)).2
    refine br_f (nI_ge (by omega) (by omega)) (zc_ma hM hmp j (by omega) rfl (zc_ma hM hmp (j + 1) (by omega) (nI_1 j) ?_))
    by_cases g : M j ≤ M (j + 1)
    · refine br_t (nI_le g (by omega)) (nm_r (nI_1 j) (ih (j + 1) n (by omega) (by omega) ?_))
      intro p hp
      by_cases e : p = j
      · subst e; exact g
      · exact hm p (by omega)
    · exact br_f (nI_ge (by omega) (by omega)) (h1 (fun z => g (z j (by omega))))
/-- stage 2: a row that stays has its handler inside -/
theorem zc_X60 {post : Int32 → SX → Prop} {fL fC : Int32} (hM : zc_ok M mp) (hL : L ≤ 64) (hC : C ≤ 5) (hR : R ≤ 4) (hN : N ≤ 64) (hrow : ∀ i, i < R → zc_rowF L C ro st en ha ty S E H T i)
    (h1 : (∃ q, q < R ∧ zc_b3 M S E H N q) → post (-3) (fL, nI R, fC, ro, su, mf, mp))
    (h2 : (¬ ∃ q, q < R ∧ zc_b3 M S E H N q) → ∃ n, wX_remap_131 post (nI N) fL (nI R) fC ro su mf mp n 0) :
    ∀ d i n, i + d = R → d < n → (∀ q, q < i → ¬ zc_b3 M S E H N q) → wX_remap_60 post (nI N) fL (nI R) fC ro su mf mp n (nI i) := by
  intro d
  induction d with
  | zero =>
    intro i n hi hn hq
    obtain ⟨n, rfl⟩ : ∃ m, n = m + 1 := ⟨n - 1, by omega⟩
    refine br_t (nI_le (by omega) (by omega)) (h2 ?_)
    rintro ⟨q, q1, q2⟩
    exact hq q (by omega) q2
  | succ d ih =>
    intro i n hi hn hq
    obtain ⟨n, rfl⟩ : ∃ m, n = m + 1 := ⟨n - 1, by omega⟩
    have hF := hrow i (by omega)
    obtain ⟨⟨v0, v1, v2, v3⟩, r0, r1, r2, r3⟩ := zc_rX hF (by omega)
    obtain ⟨a1, a2, a3, a4, -⟩ := hF
    obtain ⟨w0, m0⟩ := zc_mr hM (by omega) r0
    obtain ⟨w1, m1⟩ := zc_mr hM (by omega) r1
    obtain ⟨w2, m2⟩ := zc_mr hM (by omega) r2
    have b0 := (hM (S i) (by omega)).2
    have b1 := (hM (E i) (by omega)).2
    have b2 := (hM (H i) (by omega)).2
    have nx : ¬ zc_b3 M S E H N i → wX_remap_60 post (nI N) fL (nI R) fC ro su mf mp n (nI (i + 1)) := by
      intro hb
      refine ih (i + 1) n (by omega) (by omega) (fun q q1 => ?_)
      by_cases e : q = i
      · subst e; exact hb
      · exact hq q (by omega)
    refine br_f (nI_ge (by omega) (by omega)) (nm_r (zc_4 i) ⟨v0, w0, v1, w1, ?_⟩)
    rw [m0, m1]
    by_cases g : M (E i) ≤ M (S i)
    · exact br_t (nI_le g (by omega)) (nm_r (nI_1 i) (nx (fun z => absurd z.1 (by omega))))
    · refine br_f (nI_ge (by omega) (by omega)) ⟨v2, w2, ?_⟩
      rw [m2]
      by_cases g' : M (H i) < N
      · exact br_t (nI_lt g' (by omega)) (nm_r (nI_1 i) (nx (fun z => absurd z.2 (by omega))))
      · exact br_f (nI_nlt (by omega) (by omega)) (h1 ⟨i, by omega, by omega, by omega⟩)
theorem zc_Y58 {post : Int32 → SY → Prop} {f2 f3 : Int32} (hM : zc_ok M mp) (hmp : zc_map mp dr) (hL : L ≤ 64) (hC : C ≤ 5) (hR : R ≤ 4) (hN : N ≤ 64) (hrow : ∀ i, i < R → zc_rowF L C ro st en ha ty S E H T i)
    (h1 : (∃ q, q < R ∧ zc_b3 M S E H N q) → post (-3) (nI R, f2, f3, st, en, ha, ty, su, mf, dr))
    (h2 : (¬ ∃ q, q < R ∧ zc_b3 M S E H N q) → ∃ n, wY_remap_114 post (nI N) (nI R) f2 f3 st en ha ty su mf dr n 0) :
    ∀ d i n, i + d = R → d < n → (∀ q, q < i → ¬ zc_b3 M S E H N q) → wY_remap_58 post (nI N) (nI R) f2 f3 st en ha ty su mf dr n (nI i) := by
  intro d
  induction d with
  | zero =>
    intro i n hi hn hq
    obtain ⟨n, rfl⟩ : ∃ m, n = m + 1 := ⟨n - 1, by omega⟩
    refine br_t (nI_le (by omega) (by omega)) (h2 ?_)
    rintro ⟨q, q1, q2⟩
    exact hq q (by omega) q2
  | succ d ih =>
    intro i n hi hn hq
    obtain ⟨n, rfl⟩ : ∃ m, n = m + 1 := ⟨n - 1, by omega⟩
    have hF := hrow i (by omega)
    obtain ⟨v0, r0, r1, r2, r3⟩ := zc_rY hF (by omega)
    obtain ⟨a1, a2, a3, a4, -⟩ := hF
    have b0 := (hM (S i) (by omega)).2
    have b1 := (hM (E i) (by omega)).2
    have b2 := (hM (H i) (by omega)).2
    have nx : ¬ zc_b3 M S E H N i → wY_remap_58 post (nI N) (nI R) f2 f3 st en ha ty su mf dr n (nI (i + 1)) := by
      intro hb
      refine ih (i + 1) n (by omega) (by omega) (fun q q1 => ?_)
      by_cases e : q = i
      · subst e; exact hb
      · exact hq q (by omega)
    refine br_f (nI_ge (by omega) (by omega)) ⟨v0, zc_ma hM hmp (S i) (by omega) r0 ⟨v0, zc_ma hM hmp (E i) (by omega) r1 ?_⟩⟩
    by_cases g : M (E i) ≤ M (S i)
    · exact br_t (nI_le g (by omega)) (nm_r (nI_1 i) (nx (fun z => absurd z.1 (by omega))))
    · refine br_f (nI_ge (by omega) (by omega)) ⟨v0, zc_ma hM hmp (H i) (by omega) r2 ?_⟩
      by_cases g' : M (H i) < N
      · exact br_t (nI_lt g' (by omega)) (nm_r (nI_1 i) (nx (fun z => absurd z.2 (by omega))))
      · exact br_f (nI_nlt (by omega) (by omega)) (h1 ⟨i, by omega, by omega, by omega⟩)
/-- stage 3: no row of a missing type falls away -/
theorem zc_X131 {post : Int32 → SX → Prop} {fL fC : Int32} (hM : zc_ok M mp) (hL : L ≤ 64) (hC : C ≤ 5) (hR : R ≤ 4) (hrow : ∀ i, i < R → zc_rowF L C ro st en ha ty S E H T i)
    (h1 : (∃ q, q < R ∧ zc_b4 M S E T mf q) → post (-4) (fL, nI R, fC, ro, su, mf, mp))
    (h2 : (¬ ∃ q, q < R ∧ zc_b4 M S E T mf q) → ∃ n, wX_remap_204 post (nI N) fL (nI R) fC n 0 0 ro su mf mp) :
    ∀ d i n, i + d = R → d < n → (∀ q, q < i → ¬ zc_b4 M S E T mf q) → wX_remap_131 post (nI N) fL (nI R) fC ro su mf mp n (nI i) := by
  intro d
  induction d with
  | zero =>
    intro i n hi hn hq
    obtain ⟨n, rfl⟩ : ∃ m, n = m + 1 := ⟨n - 1, by omega⟩
    refine br_t (nI_le (by omega) (by omega)) (h2 ?_)
    rintro ⟨q, q1, q2⟩
    exact hq q (by omega) q2
  | succ d ih =>
    intro i n hi hn hq
    obtain ⟨n, rfl⟩ : ∃ m, n = m + 1 := ⟨n - 1, by omega⟩
    have hF := hrow i (by omega)
    obtain ⟨⟨v0, v1, v2, v3⟩, r0, r1, r2, r3⟩ := zc_rX hF (by omega)
    obtain ⟨a1, a2, a3, a4, -⟩ := hF
    obtain ⟨w0, m0⟩ := zc_mr hM (by omega) r0
    obtain ⟨w1, m1⟩ := zc_mr hM (by omega) r1
    have b0 := (hM (S i) (by omega)).2
    have b1 := (hM (E i) (by omega)).2
    have ec : (nI (T i)).toNatClampNeg = T i := nI_clamp (by omega)
    have nx : ¬ zc_b4 M S E T mf i → wX_remap_131 post (nI N) fL (nI R) fC ro su mf mp n (nI (i + 1)) := by
      intro hb
      refine ih (i + 1) n (by omega) (by omega) (fun q q1 => ?_)
      by_cases e : q = i
      · subst e; exact hb
      · exact hq q (by omega)
    refine br_f (nI_ge (by omega) (by omega)) (nm_r (zc_4 i) ⟨v0, w0, v1, w1, ?_⟩)
    rw [m0, m1, r3, ec]
    by_cases g : M (S i) = M (E i)
    · refine br_t (congrArg nI g) ⟨v3, vp_in_nI (by omega) (by omega), ?_⟩
      by_cases g' : mf (T i) = 0
      · exact br_t g' (nm_r (nI_1 i) (nx (fun z => z.2 g')))
      · exact br_f g' (h1 ⟨i, by omega, g, g'⟩)
    · exact br_f (fun z => g ((nI_eq (by omega) (by omega)).mp z)) (nm_r (nI_1 i) (nx (fun z => g z.1)))
theorem zc_Y114 {post : Int32 → SY → Prop} {f2 f3 : Int32} (hM : zc_ok M mp) (hmp : zc_map mp dr) (hL : L ≤ 64) (hC : C ≤ 5) (hR : R ≤ 4) (hrow : ∀ i, i < R → zc_rowF L C ro st en ha ty S E H T i)
    (h1 : (∃ q, q < R ∧ zc_b4 M S E T mf q) → post (-4) (nI R, f2, f3, st, en, ha, ty, su, mf, dr))
    (h2 : (¬ ∃ q, q < R ∧ zc_b4 M S E T mf q) → ∃ n, wY_remap_172 post (nI N) (nI R) f2 f3 n 0 0 st en ha ty su mf dr) :
    ∀ d i n, i + d = R → d < n → (∀ q, q < i → ¬ zc_b4 M S E T mf q) → wY_remap_114 post (nI N) (nI R) f2 f3 st en ha ty su mf dr n (nI i) := by
  intro d
  induction d with
  | zero =>
    intro i n hi hn hq
    obtain ⟨n, rfl⟩ : ∃ m, n = m + 1 := ⟨n - 1, by omega⟩
    refine br_t (nI_le (by omega) (by omega)) (h2 ?_)
    rintro ⟨q, q1, q2⟩
    exact hq q (by omega) q2
  | succ d ih =>
    intro i n hi hn hq
    obtain ⟨n, rfl⟩ : ∃ m, n = m + 1 := ⟨n - 1, by omega⟩
    have hF := hrow i (by omega)
    obtain ⟨v0, r0, r1, r2, r3⟩ := zc_rY hF (by omega)
    obtain ⟨a1, a2, a3, a4, -⟩ := hF
    have b0 := (hM (S i) (by omega)).2
    have b1 := (hM (E i) (by omega)).2
    have ec : (nI (T i)).toNatClampNeg = T i := nI_clamp (by omega)
    have nx : ¬ zc_b4 M S E T mf i → wY_remap_114 post (nI N) (nI R) f2 f3 st en ha ty su mf dr n (nI (i + 1)) := by
      intro hb
      refine ih (i + 1) n (by omega) (by omega) (fun q q1 => ?_)
      by_cases e : q = i
      · subst e; exact hb
      · exact hq q (by omega)
    refine br_f (nI_ge (by omega) (by omega)) ⟨v0, ?_⟩
    rw [r3, ec]
    refine ⟨vp_in_nI (by omega) (by omega), ?_⟩
    by_cases g' : mf (T i) = 0
    · exact br_t g' (nm_r (nI_1 i) (nx (fun z => z.2 g')))
    · refine br_f g' ⟨v0, zc_ma hM hmp (S i) (by omega) r0 ⟨v0, zc_ma hM hmp (E i) (by omega) r1 ?_⟩⟩
      by_cases g : M (S i) = M (E i)
      · exact br_t (congrArg nI g) (h1 ⟨i, by omega, g, g'⟩)
      · exact br_f (fun z => g ((nI_eq (by omega) (by omega)).mp z)) (nm_r (nI_1 i) (nx (fun z => g z.1)))
end
end
section
/-! remap: the rows move down, in lockstep; then the clearing loops -/
/-- a row still to be read, with what the first stages have shown of it -/
def zc_src (L N C : Nat) (M : Nat → Nat) (ro st en ha ty : Nat → Int32) (i : Nat) : Prop :=
  ∃ s e h t : Nat, (s < e ∧ e ≤ L ∧ h < L ∧ t ≤ C ∧ M s ≤ M e ∧ M e ≤ N ∧ (M s < M e → M h < N)) ∧ ro (4 * i) = nI s ∧ ro (4 * i + 1) = nI e ∧ ro (4 * i + 2) = nI h ∧ ro (4 * i + 3) = nI t ∧ st i = nI s ∧ en i = nI e ∧ ha i = nI h ∧ ty i = nI t
theorem zc_src_old {L N C : Nat} {M : Nat → Nat} {ro st en ha ty : Nat → Int32} {k i : Nat} {s e h t : Int32} (hi : i ≠ k) (r : zc_src L N C M ro st en ha ty i) :
    zc_src L N C M (zc_u4 ro k s e h t) (upd st k s) (upd en k e) (upd ha k h) (upd ty k t) i := by
  obtain ⟨s', e', h', t', a1, b1, b2, b3, b4, c1, c2, c3, c4⟩ := r
  refine ⟨s', e', h', t', a1, ?_, ?_, ?_, ?_, ?_, ?_, ?_, ?_⟩
  · rw [zc_u4_n (by omega)]; exact b1
  · rw [zc_u4_n (by omega)]; exact b2
  · rw [zc_u4_n (by omega)]; exact b3
  · rw [zc_u4_n (by omega)]; exact b4
  · rw [pk_un hi]; exact c1
  · rw [pk_un hi]; exact c2
  · rw [pk_un hi]; exact c3
  · rw [pk_un hi]; exact c4
section
variable {L R C N : Nat} {su mf mp dr : Nat → Int32} {M : Nat → Nat}
/-- one row, X: it falls away -/
theorem zc_X204_d {post : Int32 → SX → Prop} {fL fC : Int32} {ro st en ha ty : Nat → Int32} {n k i : Nat} {s e h t : Nat} (hM : zc_ok M mp) (hL : L ≤ 64) (hR : R ≤ 4) (hi : i < R)
    (hs : s < e) (he : e ≤ L) (hh : h < L) (r0 : ro (4 * i) = nI s) (r1 : ro (4 * i + 1) = nI e) (r2 : ro (4 * i + 2) = nI h) (r3 : ro (4 * i + 3) = nI t)
    (g : M s = M e) (K : wX_remap_204 post (nI N) fL (nI R) fC n (nI k) (nI (i + 1)) ro su mf mp) :
    wX_remap_204 post (nI N) fL (nI R) fC (n + 1) (nI k) (nI i) ro su mf mp := by
  have q0 : ro (nI (4 * i)).toNatClampNeg = nI s := by rw [nI_clamp (by omega)]; exact r0
  have q1 : ro (nI (4 * i) + 1).toNatClampNeg = nI e := by rw [nI_1, nI_clamp (by omega)]; exact r1
  have q2 : ro (nI (4 * i) + 2).toNatClampNeg = nI h := by rw [zc_2, nI_clamp (by omega)]; exact r2
  have i0 : vp_in (nI (4 * i)) 16 := vp_in_nI (by omega) (by omega)
  have i1 : vp_in (nI (4 * i) + 1) 16 := by rw [nI_1]; exact vp_in_nI (by omega) (by omega)
  have i2 : vp_in (nI (4 * i) + 2) 16 := by rw [zc_2]; exact vp_in_nI (by omega) (by omega)
  have i3 : vp_in (nI (4 * i) + 3) 16 := by rw [zc_3]; exact vp_in_nI (by omega) (by omega)
  obtain ⟨w0, m0⟩ := zc_mr hM (by omega) q0
  obtain ⟨w1, m1⟩ := zc_mr hM (by omega) q1
  obtain ⟨w2, m2⟩ := zc_mr hM (by omega) q2
  exact br_f (nI_ge (by omega) (by omega)) (nm_r (zc_4 i) ⟨i0, w0, nm_r m0 ⟨i1, w1, nm_r m1 ⟨i2, w2, nm_r m2 ⟨i3, nm_e (br_t (congrArg nI g) (nm_r (nI_1 i) K))⟩⟩⟩⟩)
/-- one row, X: it moves to place k -/
theorem zc_X204_k {post : Int32 → SX → Prop} {fL fC : Int32} {ro st en ha ty : Nat → Int32} {n k i : Nat} {s e h t : Nat} (hM : zc_ok M mp) (hL : L ≤ 64) (hC : C ≤ 5) (hR : R ≤ 4) (hi : i < R) (hk : k ≤ i)
    (hs : s < e) (he : e ≤ L) (hh : h < L) (ht : t ≤ C) (r0 : ro (4 * i) = nI s) (r1 : ro (4 * i + 1) = nI e) (r2 : ro (4 * i + 2) = nI h) (r3 : ro (4 * i + 3) = nI t)
    (g : ¬ M s = M e) (K : wX_remap_204 post (nI N) fL (nI R) fC n (nI (k + 1)) (nI (i + 1)) (zc_u4 ro k (nI (M s)) (nI (M e)) (nI (M h)) (nI t)) su mf mp) :
    wX_remap_204 post (nI N) fL (nI R) fC (n + 1) (nI k) (nI i) ro su mf mp := by
  have q0 : ro (nI (4 * i)).toNatClampNeg = nI s := by rw [nI_clamp (by omega)]; exact r0
  have q1 : ro (nI (4 * i) + 1).toNatClampNeg = nI e := by rw [nI_1, nI_clamp (by omega)]; exact r1
  have q2 : ro (nI (4 * i) + 2).toNatClampNeg = nI h := by rw [zc_2, nI_clamp (by omega)]; exact r2
  have q3 : ro (nI (4 * i) + 3).toNatClampNeg = nI t := by rw [zc_3, nI_clamp (by omega)]; exact r3
  have i0 : vp_in (nI (4 * i)) 16 := vp_in_nI (by omega) (by omega)
  have i1 : vp_in (nI (4 * i) + 1) 16 := by rw [nI_1]; exact vp_in_nI (by omega) (by omega)
  have i2 : vp_in (nI (4 * i) + 2) 16 := by rw [zc_2]; exact vp_in_nI (by omega) (by omega)
  have i3 : vp_in (nI (4 * i) + 3) 16 := by rw [zc_3]; exact vp_in_nI (by omega) (by omega)
  have j0 : vp_in (nI (4 * k)) 16 := vp_in_nI (by omega) (by omega)
  have j1 : vp_in (nI (4 * k) + 1) 16 := by rw [nI_1]; exact vp_in_nI (by omega) (by omega)
  have j2 : vp_in (nI (4 * k) + 2) 16 := by rw [zc_2]; exact vp_in_nI (by omega) (by omega)
  have j3 : vp_in (nI (4 * k) + 3) 16 := by rw [zc_3]; exact vp_in_nI (by omega) (by omega)
  obtain ⟨w0, m0⟩ := zc_mr hM (by omega) q0
  obtain ⟨w1, m1⟩ := zc_mr hM (by omega) q1
  obtain ⟨w2, m2⟩ := zc_mr hM (by omega) q2
  have b0 := (hM s (by omega)).2
  have b1 := (hM e (by omega)).2
  have b2 := (hM h (by omega)).2
  have p0 : ∀ f : Nat → Int32, upd f (nI (4 * k)).toNatClampNeg (vp_nar .char (nI (M s))) = upd f (4 * k) (nI (M s)) := fun f => by rw [nI_clamp (by omega), zc_nc b0]
  have p1 : ∀ f : Nat → Int32, upd f (nI (4 * k) + 1).toNatClampNeg (vp_nar .char (nI (M e))) = upd f (4 * k + 1) (nI (M e)) := fun f => by rw [nI_1, nI_clamp (by omega), zc_nc b1]
  have p2 : ∀ f : Nat → Int32, upd f (nI (4 * k) + 2).toNatClampNeg (vp_nar .char (nI (M h))) = upd f (4 * k + 2) (nI (M h)) := fun f => by rw [zc_2, nI_clamp (by omega), zc_nc b2]
  have p3 : ∀ f : Nat → Int32, upd f (nI (4 * k) + 3).toNatClampNeg (vp_nar .char (nI t)) = upd f (4 * k + 3) (nI t) := fun f => by rw [zc_3, nI_clamp (by omega), zc_nc (by omega)]
  have gn : ¬ nI (M s) = nI (M e) := fun z => g ((nI_eq (by omega) (by omega)).mp z)
  refine br_f (nI_ge (by omega) (by omega)) (nm_r (zc_4 i) ⟨i0, w0, nm_r m0 ⟨i1, w1, nm_r m1 ⟨i2, w2, nm_r m2 ⟨i3, nm_r q3 (br_f gn (nm_r (zc_4 k) ?_))⟩⟩⟩⟩)
  exact ⟨j0, nm_r (p0 _) ⟨j1, nm_r (p1 _) ⟨j2, nm_r (p2 _) ⟨j3, nm_r (p3 _) (nm_r (nI_1 k) (nm_r (nI_1 i) K))⟩⟩⟩⟩
theorem zc_Y172_d {post : Int32 → SY → Prop} {f2 f3 : Int32} {st en ha ty : Nat → Int32} {n k i : Nat} {s e : Nat} (hM : zc_ok M mp) (hmp : zc_map mp dr) (hL : L ≤ 64) (hR : R ≤ 4) (hi : i < R)
    (hs : s < e) (he : e ≤ L) (c0 : st i = nI s) (c1 : en i = nI e)
    (g : M s = M e) (K : wY_remap_172 post (nI N) (nI R) f2 f3 n (nI k) (nI (i + 1)) st en ha ty su mf dr) :
    wY_remap_172 post (nI N) (nI R) f2 f3 (n + 1) (nI k) (nI i) st en ha ty su mf dr := by
  have q0 : st (nI i).toNatClampNeg = nI s := by rw [nI_clamp (by omega)]; exact c0
  have q1 : en (nI i).toNatClampNeg = nI e := by rw [nI_clamp (by omega)]; exact c1
  have v : vp_in (nI i) 4 := vp_in_nI (by omega) (by omega)
  have b1 := (hM e (by omega)).2
  exact br_f (nI_ge (by omega) (by omega)) ⟨v, zc_ma hM hmp s (by omega) q0 ⟨v, zc_ma hM hmp e (by omega) q1 (br_t (nI_le (by omega) (by omega)) (nm_r (nI_1 i) K))⟩⟩
theorem zc_Y172_k {post : Int32 → SY → Prop} {f2 f3 : Int32} {st en ha ty : Nat → Int32} {n k i : Nat} {s e h t : Nat} (hM : zc_ok M mp) (hmp : zc_map mp dr) (hL : L ≤ 64) (hC : C ≤ 5) (hR : R ≤ 4) (hi : i < R) (hk : k ≤ i)
    (hs : s < e) (he : e ≤ L) (hh : h < L) (ht : t ≤ C) (c0 : st i = nI s) (c1 : en i = nI e) (c2 : ha i = nI h) (c3 : ty i = nI t)
    (g : M s < M e) (K : wY_remap_172 post (nI N) (nI R) f2 f3 n (nI (k + 1)) (nI (i + 1)) (upd st k (nI (M s))) (upd en k (nI (M e))) (upd ha k (nI (M h))) (upd ty k (nI t)) su mf dr) :
    wY_remap_172 post (nI N) (nI R) f2 f3 (n + 1) (nI k) (nI i) st en ha ty su mf dr := by
  have q0 : st (nI i).toNatClampNeg = nI s := by rw [nI_clamp (by omega)]; exact c0
  have q1 : en (nI i).toNatClampNeg = nI e := by rw [nI_clamp (by omega)]; exact c1
  have q2 : ha (nI i).toNatClampNeg = nI h := by rw [nI_clamp (by omega)]; exact c2
  have q3 : ty (nI i).toNatClampNeg = nI t := by rw [nI_clamp (by omega)]; exact c3
  have v : vp_in (nI i) 4 := vp_in_nI (by omega) (by omega)
  have w : vp_in (nI k) 4 := vp_in_nI (by omega) (by omega)
  have b0 := (hM s (by omega)).2
  have b1 := (hM e (by omega)).2
  have b2 := (hM h (by omega)).2
  have p : ∀ (f : Nat → Int32) (z : Nat), z < 65536 → upd f (nI k).toNatClampNeg (vp_nar .char (((nI z).toUInt32 % 65536).toInt32)) = upd f k (nI z) := fun f z hz => by
    rw [nI_clamp (by omega)]
    exact congrArg (upd f k) ((zc_vc (nI z)).trans (zc_u16I hz))
  have p3 : upd ty (nI k).toNatClampNeg (vp_nar .char (ty (nI i).toNatClampNeg)) = upd ty k (nI t) := by
    rw [q3, nI_clamp (by omega), zc_nc (by omega)]
  refine br_f (nI_ge (by omega) (by omega)) ⟨v, zc_ma hM hmp s (by omega) q0 ⟨v, zc_ma hM hmp e (by omega) q1 (br_f (nI_ge (by omega) (by omega)) ⟨w, nm_r (p _ _ b0) ⟨w, nm_r (p _ _ b1) ⟨v, ?_⟩⟩⟩)⟩⟩
  exact zc_ma hM hmp h (by omega) q2 ⟨w, nm_r (p _ _ b2) (nm_r (nI_1 k) ⟨v, w, nm_r p3 (nm_r (nI_1 i) K)⟩)⟩
/-- both sides move the same rows -/
theorem zc_lock (hM : zc_ok M mp) (hmp : zc_map mp dr) (hL : L ≤ 64) (hC : C ≤ 5) (hR : R ≤ 4) :
    ∀ d i k (ro st en ha ty : Nat → Int32), i + d = R → k ≤ i → (∀ j, j < k → zc_row N C ro st en ha ty j) → (∀ j, i ≤ j → j < R → zc_src L N C M ro st en ha ty j) →
    ∃ (k' : Nat) (ro' st' en' ha' ty' : Nat → Int32), k' ≤ R ∧ (∀ j, j < k' → zc_row N C ro' st' en' ha' ty' j) ∧
      (∀ (post : Int32 → SX → Prop) (fL fC : Int32) (n : Nat), d < n → (∃ m, wX_remap_345 post (nI N) (nI k') fL (nI R) fC m (nI (4 * k')) ro' su mf mp) → wX_remap_204 post (nI N) fL (nI R) fC n (nI k) (nI i) ro su mf mp) ∧
      (∀ (post : Int32 → SY → Prop) (f2 f3 : Int32) (n : Nat), d < n → (∃ m, wY_remap_279 post (nI k') (nI k') f2 (nI N) m 0 st' en' ha' ty' su mf dr) → wY_remap_172 post (nI N) (nI R) f2 f3 n (nI k) (nI i) st en ha ty su mf dr) := by
  intro d
  induction d with
  | zero =>
    intro i k ro st en ha ty hi hk hrow _
    refine ⟨k, ro, st, en, ha, ty, by omega, hrow, ?_, ?_⟩
    · intro post fL fC n hn K
      obtain ⟨n, rfl⟩ : ∃ m, n = m + 1 := ⟨n - 1, by omega⟩
      exact br_t (nI_le (by omega) (by omega)) (nm_r (zc_4 k) K)
    · intro post f2 f3 n hn K
      obtain ⟨n, rfl⟩ : ∃ m, n = m + 1 := ⟨n - 1, by omega⟩
      exact br_t (nI_le (by omega) (by omega)) K
  | succ d ih =>
    intro i k ro st en ha ty hi hk hrow hsrc
    obtain ⟨s, e, h, t, ⟨a1, a2, a3, a4, a5, a6, a7⟩, r0, r1, r2, r3, c0, c1, c2, c3⟩ := hsrc i (Nat.le_refl i) (by omega)
    by_cases g : M s = M e
    · obtain ⟨k', ro', st', en', ha', ty', hk', hrow', hX, hY⟩ := ih (i + 1) k ro st en ha ty (by omega) (by omega) hrow (fun j j1 j2 => hsrc j (by omega) j2)
      refine ⟨k', ro', st', en', ha', ty', hk', hrow', ?_, ?_⟩
      · intro post fL fC n hn K
        obtain ⟨n, rfl⟩ : ∃ m, n = m + 1 := ⟨n - 1, by omega⟩
        exact zc_X204_d (st := st) (en := en) (ha := ha) (ty := ty) hM hL hR (by omega) a1 a2 a3 r0 r1 r2 r3 g (hX post fL fC n (by omega) K)
      · intro post f2 f3 n hn K
        obtain ⟨n, rfl⟩ : ∃ m, n = m + 1 := ⟨n - 1, by omega⟩
        exact zc_Y172_d hM hmp hL hR (by omega) a1 a2 c0 c1 g (hY post f2 f3 n (by omega) K)
    · have gl : M s < M e := by omega
      obtain ⟨k', ro', st', en', ha', ty', hk', hrow', hX, hY⟩ := ih (i + 1) (k + 1) (zc_u4 ro k (nI (M s)) (nI (M e)) (nI (M h)) (nI t)) (upd st k (nI (M s))) (upd en k (nI (M e))) (upd ha k (nI (M h))) (upd ty k (nI t)) (by omega) (by omega)
        (fun j hj => by
          by_cases ej : j = k
          · subst ej; exact zc_row_new gl a6 (a7 gl) a4
          · exact zc_row_old ej (hrow j (by omega)))
        (fun j j1 j2 => zc_src_old (by omega) (hsrc j (by omega) j2))
      refine ⟨k', ro', st', en', ha', ty', hk', hrow', ?_, ?_⟩
      · intro post fL fC n hn K
        obtain ⟨n, rfl⟩ : ∃ m, n = m + 1 := ⟨n - 1, by omega⟩
        exact zc_X204_k (st := st) (en := en) (ha := ha) (ty := ty) hM hL hC hR (by omega) hk a1 a2 a3 a4 r0 r1 r2 r3 g (hX post fL fC n (by omega) K)
      · intro post f2 f3 n hn K
        obtain ⟨n, rfl⟩ : ∃ m, n = m + 1 := ⟨n - 1, by omega⟩
        exact zc_Y172_k hM hmp hL hC hR (by omega) hk a1 a2 a3 a4 c0 c1 c2 c3 gl (hY post f2 f3 n (by omega) K)
end
end
section
/-! remap: the clearing loops, the whole -/
theorem zc_X379 {post : Int32 → SX → Prop} {x3 fL fR fC : Int32} {ro su mf : Nat → Int32} (h : ∀ mp, (∀ q, q ≤ 64 → mp q = lw_u16 (nI q)) → post x3 (fL, fR, fC, ro, su, mf, mp)) :
    ∀ d j mp, j + d = 65 → (∀ q, q < j → mp q = lw_u16 (nI q)) → wX_remap_379 post x3 fL fR fC (d + 1) (nI j) ro su mf mp := by
  intro d
  induction d with
  | zero =>
    intro j mp hj hm
    exact br_t (nI_lt (a := 64) (by omega) (by omega)) (h mp (fun q hq => hm q (by omega)))
  | succ d ih =>
    intro j mp hj hm
    refine br_f (nI_nlt (a := 64) (by omega) (by omega)) ⟨vp_in_nI (by omega) (by omega), ?_⟩
    refine nm_r (e' := upd mp j (lw_u16 (nI j))) (by rw [nI_clamp (by omega)]; exact congrArg (upd mp j) (zc_vc (nI j))) (nm_r (nI_1 j) (ih (j + 1) _ (by omega) ?_))
    intro q hq
    by_cases e : q = j
    · subst e; rw [pk_us]
    · rw [pk_un e]; exact hm q (by omega)
theorem zc_X345 {post : Int32 → SX → Prop} {x2 x3 fL fR fC : Int32} {ro su mf mp : Nat → Int32} {k : Nat} (h : ∀ ro' mp', (∀ q, q < 4 * k → ro' q = ro q) → (∀ q, q ≤ 64 → mp' q = lw_u16 (nI q)) → post x3 (x2, x3, fC, ro', su, mf, mp')) :
    ∀ d j ro', j + d = 16 → 4 * k ≤ j → (∀ q, q < 4 * k → ro' q = ro q) → wX_remap_345 post x2 x3 fL fR fC (d + 1) (nI j) ro' su mf mp := by
  intro d
  induction d with
  | zero =>
    intro j ro' hj hk hr
    exact br_t (nI_le (a := 16) (by omega) (by omega)) ⟨66, zc_X379 (fun mp' hm => h ro' mp' hr hm) 65 0 mp (by omega) (fun q hq => absurd hq (by omega))⟩
  | succ d ih =>
    intro j ro' hj hk hr
    refine br_f (nI_ge (b := 16) (by omega) (by omega)) ⟨vp_in_nI (by omega) (by omega), nm_e (nm_r (nI_1 j) (ih (j + 1) _ (by omega) (by omega) ?_))⟩
    intro q hq
    rw [nI_clamp (by omega), pk_un (by omega)]
    exact hr q hq
theorem zc_Y279 {post : Int32 → SY → Prop} {x2 f1 f2 f3 : Int32} {st en ha ty su mf : Nat → Int32} (h : ∀ dr, (∀ q, q ≤ 64 → dr q = 0) → post x2 (f1, f2, f3, st, en, ha, ty, su, mf, dr)) :
    ∀ d j dr, j + d = 65 → (∀ q, q < j → dr q = 0) → wY_remap_279 post x2 f1 f2 f3 (d + 1) (nI j) st en ha ty su mf dr := by
  intro d
  induction d with
  | zero =>
    intro j dr hj hm
    exact br_t (nI_lt (a := 64) (by omega) (by omega)) (h dr (fun q hq => hm q (by omega)))
  | succ d ih =>
    intro j dr hj hm
    refine br_f (nI_nlt (a := 64) (by omega) (by omega)) ⟨vp_in_nI (by omega) (by omega), ?_⟩
    refine nm_r (e' := upd dr j 0) (by rw [nI_clamp (by omega), zc_n0, nI_0]) (nm_r (nI_1 j) (ih (j + 1) _ (by omega) ?_))
    intro q hq
    by_cases e : q = j
    · subst e; rw [pk_us]
    · rw [pk_un e]; exact hm q (by omega)
theorem zc_row_cg {L C k : Nat} {ro ro' st en ha ty : Nat → Int32} (hr : ∀ q, q < 4 * k → ro' q = ro q) {i : Nat} (hi : i < k) (r : zc_row L C ro st en ha ty i) : zc_row L C ro' st en ha ty i := by
  obtain ⟨s, e, h, t, a1, a2, a3, a4, b1, b2, b3, b4, c⟩ := r
  exact ⟨s, e, h, t, a1, a2, a3, a4, (hr _ (by omega)).trans b1, (hr _ (by omega)).trans b2, (hr _ (by omega)).trans b3, (hr _ (by omega)).trans b4, c⟩
section
variable {L R C : Nat} {ro st en ha ty su mf mp dr : Nat → Int32} {S E H T M : Nat → Nat}
theorem zc_Xremap {post : Int32 → SX → Prop} {fC : Int32} (hM : zc_ok M mp) (hL : L ≤ 64) (hC : C ≤ 5) (hR : R ≤ 4) (hrow : ∀ i, i < R → zc_rowF L C ro st en ha ty S E H T i)
    (o1 : ¬ zc_mono M L → post (-1) (nI L, nI R, fC, ro, su, mf, mp))
    (o2 : zc_mono M L → ¬ (1 ≤ M L ∧ M L ≤ 64) → post (-2) (nI L, nI R, fC, ro, su, mf, mp))
    (o3 : zc_mono M L → 1 ≤ M L ∧ M L ≤ 64 → (∃ q, q < R ∧ zc_b3 M S E H (M L) q) → post (-3) (nI L, nI R, fC, ro, su, mf, mp))
    (o4 : zc_mono M L → 1 ≤ M L ∧ M L ≤ 64 → (¬ ∃ q, q < R ∧ zc_b3 M S E H (M L) q) → (∃ q, q < R ∧ zc_b4 M S E T mf q) → post (-4) (nI L, nI R, fC, ro, su, mf, mp))
    (o5 : zc_mono M L → 1 ≤ M L ∧ M L ≤ 64 → (¬ ∃ q, q < R ∧ zc_b3 M S E H (M L) q) → (¬ ∃ q, q < R ∧ zc_b4 M S E T mf q) → ∃ n, wX_remap_204 post (nI (M L)) (nI L) (nI R) fC n 0 0 ro su mf mp) :
    wpX_remap post (nI L, nI R, fC, ro, su, mf, mp) :=
  ⟨L + 1, zc_X7 hM hL o1 o2 (fun m r => ⟨R + 1, zc_X60 hM hL hC hR r.2 hrow (o3 m r) (fun b3 => ⟨R + 1, zc_X131 hM hL hC hR hrow (o4 m r b3) (o5 m r b3) R 0 (R + 1) (by omega) (by omega) (fun q hq => absurd hq (by omega))⟩) R 0 (R + 1) (by omega) (by omega) (fun q hq => absurd hq (by omega))⟩) L 0 (L + 1) (by omega) (by omega) (fun q hq => absurd hq (by omega))⟩
theorem zc_Yremap {post : Int32 → SY → Prop} {f2 : Int32} (hM : zc_ok M mp) (hmp : zc_map mp dr) (hL : L ≤ 64) (hC : C ≤ 5) (hR : R ≤ 4) (hrow : ∀ i, i < R → zc_rowF L C ro st en ha ty S E H T i)
    (o1 : ¬ zc_mono M L → post (-1) (nI R, f2, nI L, st, en, ha, ty, su, mf, dr))
    (o2 : zc_mono M L → ¬ (1 ≤ M L ∧ M L ≤ 64) → post (-2) (nI R, f2, nI L, st, en, ha, ty, su, mf, dr))
    (o3 : zc_mono M L → 1 ≤ M L ∧ M L ≤ 64 → (∃ q, q < R ∧ zc_b3 M S E H (M L) q) → post (-3) (nI R, f2, nI L, st, en, ha, ty, su, mf, dr))
    (o4 : zc_mono M L → 1 ≤ M L ∧ M L ≤ 64 → (¬ ∃ q, q < R ∧ zc_b3 M S E H (M L) q) → (∃ q, q < R ∧ zc_b4 M S E T mf q) → post (-4) (nI R, f2, nI L, st, en, ha, ty, su, mf, dr))
    (o5 : zc_mono M L → 1 ≤ M L ∧ M L ≤ 64 → (¬ ∃ q, q < R ∧ zc_b3 M S E H (M L) q) → (¬ ∃ q, q < R ∧ zc_b4 M S E T mf q) → ∃ n, wY_remap_172 post (nI (M L)) (nI R) f2 (nI L) n 0 0 st en ha ty su mf dr) :
    wpY_remap post (nI R, f2, nI L, st, en, ha, ty, su, mf, dr) :=
  ⟨L + 1, zc_Y2 hM hmp hL o1 o2 (fun m r => ⟨R + 1, zc_Y58 hM hmp hL hC hR r.2 hrow (o3 m r) (fun b3 => ⟨R + 1, zc_Y114 hM hmp hL hC hR hrow (o4 m r b3) (o5 m r b3) R 0 (R + 1) (by omega) (by omega) (fun q hq => absurd hq (by omega))⟩) R 0 (R + 1) (by omega) (by omega) (fun q hq => absurd hq (by omega))⟩) L 0 (L + 1) (by omega) (by omega) (fun q hq => absurd hq (by omega))⟩
end
theorem i_vc_remap {k : Nat} {u : SX} {v : SY} (I : i_Rel k u v) (hk : k + 5 ≤ 2561) : wpX_remap (fun r u' => wpY_remap (fun r' v' => r' = r ∧ i_Rel (k + 5) u' v') v) u := by
  refine zc_el (P := fun u v => wpX_remap (fun r u' => wpY_remap (fun r' v' => r' = r ∧ i_Rel (k + 5) u' v') v) u) I ?_
  intro L R C ro st en ha ty su mf mp dr h1 h2 h3 h4 h5 h6 h7
  have hr := zc_rel (k := k + 5) (mf := mf) h1 h2 h3 h4 h5 h6 h7
  obtain ⟨M, hM⟩ := zc_mapN h7
  obtain ⟨S, E, H, T, hrow⟩ := zc_rows h2 h4 h5
  refine zc_Xremap hM h2 h4 h3 hrow (fun m => ?_) (fun m r => ?_) (fun m r b3 => ?_) (fun m r b3 b4 => ?_) (fun m r b3 b4 => ?_)
  · exact zc_Yremap hM h7 h2 h4 h3 hrow (fun _ => ⟨rfl, hr⟩) (fun z => absurd z m) (fun z => absurd z m) (fun z => absurd z m) (fun z => absurd z m)
  · exact zc_Yremap hM h7 h2 h4 h3 hrow (fun z => absurd m z) (fun _ _ => ⟨rfl, hr⟩) (fun _ z => absurd z r) (fun _ z => absurd z r) (fun _ z => absurd z r)
  · exact zc_Yremap hM h7 h2 h4 h3 hrow (fun z => absurd m z) (fun _ z => absurd r z) (fun _ _ _ => ⟨rfl, hr⟩) (fun _ _ z => absurd b3 z) (fun _ _ z => absurd b3 z)
  · exact zc_Yremap hM h7 h2 h4 h3 hrow (fun z => absurd m z) (fun _ z => absurd r z) (fun _ _ z => absurd z b3) (fun _ _ _ _ => ⟨rfl, hr⟩) (fun _ _ _ z => absurd b4 z)
  · obtain ⟨k', ro', st', en', ha', ty', hk', hrow', hX, hY⟩ := zc_lock (N := M L) (su := su) (mf := mf) hM h7 h2 h4 h3 R 0 0 ro st en ha ty (by omega) (by omega) (fun j hj => absurd hj (by omega)) (fun j _ hj => by
      obtain ⟨a1, a2, a3, a4, rest⟩ := hrow j hj
      refine ⟨S j, E j, H j, T j, ⟨a1, a2, a3, a4, ?_, ?_, ?_⟩, rest⟩
      · have q := zc_mono_le m (a := S j) (E j - S j) (by omega)
        rwa [show S j + (E j - S j) = E j from by omega] at q
      · have q := zc_mono_le m (a := E j) (L - E j) (by omega)
        rwa [show E j + (L - E j) = L from by omega] at q
      · intro lt
        exact Nat.lt_of_not_le (fun z => b3 ⟨j, hj, lt, z⟩))
    refine ⟨R + 1, hX _ _ _ (R + 1) (by omega) ⟨16 - 4 * k' + 1, zc_X345 (k := k') ?_ (16 - 4 * k') (4 * k') ro' (by omega) (Nat.le_refl _) (fun q _ => rfl)⟩⟩
    intro ro'' mp'' hro hmp
    refine zc_Yremap hM h7 h2 h4 h3 hrow (fun z => absurd m z) (fun _ z => absurd r z) (fun _ _ z => absurd z b3) (fun _ _ _ z => absurd z b4) (fun _ _ _ _ => ?_)
    refine ⟨R + 1, hY _ _ _ (R + 1) (by omega) ⟨66, zc_Y279 ?_ 65 0 dr (by omega) (fun q hq => absurd hq (by omega))⟩⟩
    intro dr'' hdr
    exact ⟨rfl, zc_rel r.1 r.2 (by omega) h4 (fun i hi => zc_row_cg hro hi (hrow' i hi)) h6 (zc_map0 hmp hdr)⟩
end
