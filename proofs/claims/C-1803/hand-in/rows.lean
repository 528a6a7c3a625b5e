section
/-! rows pasted from kit/rows: stores, masks, bits of an Int32 -/
theorem pk_us {f : Nat → Int32} {k : Nat} {x : Int32} : upd f k x k = x := if_pos rfl
theorem pk_un {f : Nat → Int32} {k j : Nat} {x : Int32} (h : j ≠ k) : upd f k x j = f j := if_neg h
theorem pk_mul (a b : Nat) : nI a * nI b = nI (a * b) := (Int32.ofNat_mul a b).symm
theorem pk_tn {n : Nat} (h : n < 2 ^ 32) : (nI n).toBitVec.toNat = n := Nat.mod_eq_of_lt h
theorem pk_and (x : Int32) {m : Int32} (k : Nat) (hm : m.toBitVec.toNat = 2 ^ k - 1) : x &&& m = nI (x.toBitVec.toNat % 2 ^ k) := by
  apply Int32.toBitVec_inj.mp
  apply BitVec.eq_of_toNat_eq
  rw [Int32.toBitVec_and, BitVec.toNat_and, hm, Nat.and_two_pow_sub_one_eq_mod]
  show _ = (BitVec.ofNat 32 _).toNat
  rw [BitVec.toNat_ofNat]
  exact (Nat.mod_eq_of_lt (Nat.lt_of_le_of_lt (Nat.mod_le _ _) x.toBitVec.isLt)).symm
theorem pk_andE (x : Int32) {m : Int32} (k : Nat) (hm : m.toBitVec.toNat = 2 ^ k - 1) : ∃ j : Nat, j < 2 ^ k ∧ x &&& m = nI j := ⟨_, Nat.mod_lt _ (Nat.two_pow_pos k), pk_and x k hm⟩
theorem pk_andIn (x : Int32) {m : Int32} (k : Nat) (hm : m.toBitVec.toNat = 2 ^ k - 1) (hk : k ≤ 30) : vp_in (x &&& m) (2 ^ k) := by
  obtain ⟨j, hj, e⟩ := pk_andE x k hm
  rw [e]
  exact vp_in_nI hj (Nat.lt_of_le_of_lt (Nat.pow_le_pow_right (by decide) hk) (by decide))
theorem pk_shl (a s : Int32) (k : Nat) (hs : (s.toBitVec.smod 32).toNat = k) : (a <<< s).toBitVec.toNat = a.toBitVec.toNat * 2 ^ k % 2 ^ 32 := by
  show (a.toBitVec <<< (s.toBitVec.smod 32).toNat).toNat = _
  rw [hs, BitVec.toNat_shiftLeft, Nat.shiftLeft_eq]
def bt (x : Int32) (i : Nat) : Bool := x.toBitVec.getLsbD i
theorem b_ext {x y : Int32} (h : ∀ i, i < 32 → bt x i = bt y i) : x = y := Int32.toBitVec_inj.mp (BitVec.eq_of_getLsbD_eq (fun i hi => h i hi))
theorem b_and (x y : Int32) (i : Nat) : bt (x &&& y) i = (bt x i && bt y i) := by unfold bt; rw [Int32.toBitVec_and, BitVec.getLsbD_and]
theorem b_xor (x y : Int32) (i : Nat) : bt (x ^^^ y) i = (bt x i ^^ bt y i) := by unfold bt; rw [Int32.toBitVec_xor, BitVec.getLsbD_xor]
theorem b_big {x : Int32} {i : Nat} (h : 32 ≤ i) : bt x i = false := BitVec.getLsbD_of_ge _ _ h
theorem b_0 (i : Nat) : bt 0 i = false := BitVec.getLsbD_zero
theorem s_l : ∀ n, n < 32 → ((nI n &&& 31).toBitVec.smod 32).toNat = n := by decide +kernel
theorem s_u : ∀ n, n < 32 → (((nI n).toUInt32 &&& Int32.toUInt32 31).toBitVec % 32).toNat = n := by decide +kernel
theorem b_shl (n : Nat) (hn : n < 32) (x : Int32) {i : Nat} (hi : i < 32) : bt (x <<< (nI n &&& 31)) i = (decide (n ≤ i) && bt x (i - n)) := by
  unfold bt
  rw [Int32.toBitVec_shiftLeft]
  show (x.toBitVec <<< ((nI n &&& 31).toBitVec.smod 32).toNat).getLsbD i = _
  rw [s_l n hn, BitVec.getLsbD_shiftLeft]
  rcases Nat.lt_or_ge i n with h | h
  · simp [h, Nat.not_le.mpr h]
  · simp [hi, h, Nat.not_lt.mpr h]
theorem b_ushr (n : Nat) (hn : n < 32) (x : Int32) (i : Nat) : bt ((x.toUInt32 >>> ((nI n).toUInt32 &&& Int32.toUInt32 31)).toInt32) i = bt x (n + i) := by
  show (x.toUInt32 >>> ((nI n).toUInt32 &&& Int32.toUInt32 31)).toBitVec.getLsbD i = x.toUInt32.toBitVec.getLsbD (n + i)
  rw [UInt32.toBitVec_shiftRight]
  show (x.toUInt32.toBitVec >>> (((nI n).toUInt32 &&& Int32.toUInt32 31).toBitVec % 32).toNat).getLsbD i = _
  rw [s_u n hn, BitVec.getLsbD_ushiftRight]
theorem nx_xor (a b : Nat) : nI a ^^^ nI b = nI (a ^^^ b) := by
  apply Int32.toBitVec_inj.1
  show BitVec.ofNat 32 a ^^^ BitVec.ofNat 32 b = BitVec.ofNat 32 (a ^^^ b)
  apply BitVec.eq_of_getLsbD_eq
  intro i hi
  simp [hi]
end
section
/-! the mixing is one to one, the secrets are all different and leave the four low bits free -/
def cs_sh (s x : Int32) : Int32 := x ^^^ ((x.toUInt32 >>> (s.toUInt32 &&& Int32.toUInt32 31)).toInt32)
def cs_mix (x : Int32) : Int32 := cs_sh 13 (cs_sh 15 (x * 1540483477) * 668265263) * 374761393 + 1
def cs_sec (src : Int32) (m : Nat) : Int32 := (nI m * 41358785 + src) <<< ((4 : Int32) &&& 31)
theorem cs_sh_inj (n : Nat) (h1 : 1 ≤ n) (hn : n < 32) {x y : Int32} (h : cs_sh (nI n) x = cs_sh (nI n) y) : x = y := by
  have hb : ∀ i, (bt x i ^^ bt x (n + i)) = (bt y i ^^ bt y (n + i)) := by
    intro i
    have e : bt (cs_sh (nI n) x) i = bt (cs_sh (nI n) y) i := by rw [h]
    unfold cs_sh at e
    rw [b_xor, b_xor, b_ushr n hn, b_ushr n hn] at e
    exact e
  have hd : ∀ j i, 32 ≤ i + j → bt x i = bt y i := by
    intro j
    induction j with
    | zero => intro i hi; rw [b_big (by omega), b_big (by omega)]
    | succ j ih =>
      intro i hi
      have e := hb i
      rw [ih (n + i) (by omega)] at e
      revert e
      generalize bt x i = p
      generalize bt y i = q
      generalize bt y (n + i) = r
      revert p q r
      decide
  exact b_ext fun i _ => hd 32 i (by omega)
theorem cs_mul_inj {c : Int32} (d : Int32) (h : c * d = 1) {x y : Int32} (e : x * c = y * c) : x = y := by
  have e2 : x * c * d = y * c * d := by rw [e]
  rw [Int32.mul_assoc, Int32.mul_assoc, h, Int32.mul_one, Int32.mul_one] at e2
  exact e2
theorem cs_mix_inj {x y : Int32} (h : cs_mix x = cs_mix y) : x = y := by
  unfold cs_mix at h
  have h1 := cs_mul_inj 2923004241 (by decide) ((Int32.add_left_inj 1).mp h)
  have h2 := cs_sh_inj 13 (by omega) (by omega) h1
  have h3 := cs_mul_inj 2701016015 (by decide) h2
  have h4 := cs_sh_inj 15 (by omega) (by omega) h3
  exact cs_mul_inj 3852147133 (by decide) h4
theorem cs_shl4 (x : Int32) : x <<< ((4 : Int32) &&& 31) = x * 16 := by
  apply Int32.toBitVec_inj.mp
  apply BitVec.eq_of_toNat_eq
  rw [pk_shl _ _ 4 (by decide), Int32.toBitVec_mul, BitVec.toNat_mul]
  rfl
theorem cs_sec_inj {src : Int32} {a b : Nat} (ha : a < 4096) (hb : b < 4096) (h : cs_sec src a = cs_sec src b) : a = b := by
  unfold cs_sec at h
  rw [cs_shl4, cs_shl4, Int32.add_mul, Int32.add_mul, Int32.add_left_inj, Int32.mul_assoc, Int32.mul_assoc, Int32.mul_comm 41358785 16, ← Int32.mul_assoc, ← Int32.mul_assoc] at h
  have h2 : nI a * nI 16 = nI b * nI 16 := cs_mul_inj 398850625 (by decide) h
  rw [pk_mul, pk_mul, nI_eq (by omega) (by omega)] at h2
  omega
theorem cs_sec_lo (src : Int32) (m : Nat) : ∀ i, i < 4 → bt (cs_sec src m) i = false := by
  intro i hi
  have e : bt ((nI m * 41358785 + src) <<< (nI 4 &&& 31)) i = _ := b_shl 4 (by omega) _ (by omega)
  rw [decide_eq_false (by omega), Bool.false_and] at e
  exact e
/-- a number of four bits -/
def cs_lo (r : Int32) : Prop := ∀ i, 4 ≤ i → bt r i = false
theorem cs_lo0 : cs_lo 0 := fun i _ => b_0 i
theorem cs_lo15 : cs_lo 15 := by
  intro i hi
  rcases Nat.lt_or_ge i 32 with h | h
  · exact (by decide +kernel : ∀ i, i < 32 → 4 ≤ i → bt 15 i = false) i h hi
  · exact b_big h
theorem cs_lo_and {r : Int32} (h : cs_lo r) (a : Int32) : cs_lo (r &&& a) := fun i hi => by rw [b_and, h i hi, Bool.false_and]
theorem cs_lo_and15 (a : Int32) : cs_lo (a &&& 15) := fun i hi => by rw [b_and, cs_lo15 i hi, Bool.and_false]
theorem cs_lo_xor {r a : Int32} (h : cs_lo r) (g : cs_lo a) : cs_lo (r ^^^ a) := fun i hi => by rw [b_xor, h i hi, g i hi]; rfl
theorem cs_xor_inj {s t r q : Int32} (hs : ∀ i, i < 4 → bt s i = false) (ht : ∀ i, i < 4 → bt t i = false) (hr : cs_lo r) (hq : cs_lo q) (h : s ^^^ r = t ^^^ q) : s = t ∧ r = q := by
  have hb : ∀ i, (bt s i ^^ bt r i) = (bt t i ^^ bt q i) := fun i => by rw [← b_xor, ← b_xor, h]
  refine ⟨b_ext fun i _ => ?_, b_ext fun i _ => ?_⟩
  · rcases Nat.lt_or_ge i 4 with h4 | h4
    · rw [hs i h4, ht i h4]
    · have e := hb i
      rw [hr i h4, hq i h4, Bool.xor_false, Bool.xor_false] at e
      exact e
  · rcases Nat.lt_or_ge i 4 with h4 | h4
    · have e := hb i
      rw [hs i h4, ht i h4, Bool.false_xor, Bool.false_xor] at e
      exact e
    · rw [hr i h4, hq i h4]
theorem cs_in_xor {a b : Int32} (ha : vp_in a 8) (b7 : Int32) (hb : b = b7 &&& 7) : vp_in (a ^^^ b) 8 := by
  obtain ⟨i, hi, rfl⟩ := vp_in_of ha (by omega)
  obtain ⟨j, hj, e⟩ := pk_andE b7 (m := 7) 3 (by decide)
  rw [hb, e, nx_xor]
  exact vp_in_nI (Nat.xor_lt_two_pow (n := 3) (by omega) (by omega)) (by omega)
theorem cs_in_at {p q : Int32} (hp : vp_in p 2) (hq : vp_in q 8) : vp_in (p * 8 + q) 16 := by
  obtain ⟨i, hi, rfl⟩ := vp_in_of hp (by omega)
  obtain ⟨j, hj, rfl⟩ := vp_in_of hq (by omega)
  show vp_in (nI i * nI 8 + nI j) 16
  rw [pk_mul, nI_add]
  exact vp_in_nI (by omega) (by omega)
theorem cs_cl_inj {a b : Int32} (ha : vp_in a 8) (hb : vp_in b 8) (h : a.toNatClampNeg = b.toNatClampNeg) : a = b := by
  obtain ⟨i, hi, rfl⟩ := vp_in_of ha (by omega)
  obtain ⟨j, hj, rfl⟩ := vp_in_of hb (by omega)
  rw [nI_clamp (by omega), nI_clamp (by omega)] at h
  rw [h]
theorem cs_inc {x : Int32} (h0 : 0 ≤ x.toInt) (h : x.toInt < 4096) : (x + 1).toInt = x.toInt + 1 := by
  have e : (1 : Int32).toInt = 1 := by decide
  rw [Jvm.Kit.i32_add (by omega) (by omega), e]
end
section
/-! the relation: equal but for checks and secrets against rounds; a slot's check was made from a secret s, which is an object's present secret exactly if object and round are those given out -/
def cs_made (src : Int32) (m : Nat) (s : Int32) : Prop := ∃ j, j ≤ m ∧ s = cs_sec src j
def cs_slot (src : Int32) (m : Nat) (L S RO : Nat → Int32) (c go gr gq : Int32) : Prop :=
  vp_in go 8 ∧ cs_lo gr ∧ gq.toInt ≤ (RO go.toNatClampNeg).toInt ∧ ∃ s, cs_made src m s ∧ c = cs_mix (s ^^^ gr) ∧ ∀ o, L o ≠ 0 → (s = S o ↔ (o = go.toNatClampNeg ∧ RO o = gq))
def cs_A (k : Nat) (SN H LA LL : Nat → Int32) : Prop :=
  ∀ i, 0 ≤ (SN i).toInt ∧ (SN i).toInt ≤ k ∧ (SN i = 0 → H i = 0) ∧ (H i ≠ 0 → LL i = LA i)
def cs_B (m : Nat) (src : Int32) (L S F O R C RO GO GR GQ : Nat → Int32) : Prop :=
  (∀ i, vp_in (O i) 8) ∧ (∀ i, cs_lo (R i)) ∧ (∀ o, 0 ≤ (RO o).toInt ∧ (RO o).toInt ≤ m) ∧ (∀ o, L o ≠ 0 → cs_made src m (S o)) ∧ (∀ i, F i ≠ 0 → cs_slot src m L S RO (C i) (GO i) (GR i) (GQ i))
def i_Rel (k : Nat) (u : SX) (v : SY) : Prop := match u, v with
  | (fm, src, L, V, S, LN, H, LA, F, O, R, C, SN, SO, SS, ST, SA), (L2, V2, RO, F2, GO, GR, GQ, O2, R2, H2, LL) => ∃ m, fm = nI m ∧ m ≤ k ∧ L2 = L ∧ V2 = V ∧ F2 = F ∧ O2 = O ∧ R2 = R ∧ H2 = H ∧ LN = SN ∧ cs_A k SN H LA LL ∧ cs_B m src L S F O R C RO GO GR GQ
section
variable {k m : Nat} {fm src : Int32} {L V S LN H LA F O R C SN SO SS ST SA RO GO GR GQ LL : Nat → Int32}
theorem cs_in (hm : m ≤ k) (hA : cs_A k SN H LA LL) (hB : cs_B m src L S F O R C RO GO GR GQ) : i_Rel k (nI m, src, L, V, S, SN, H, LA, F, O, R, C, SN, SO, SS, ST, SA) (L, V, RO, F, GO, GR, GQ, O, R, H, LL) :=
  ⟨m, rfl, hm, rfl, rfl, rfl, rfl, rfl, rfl, rfl, hA, hB⟩
end
theorem cs_el {k : Nat} {P : SX → SY → Prop} {u : SX} {v : SY} (h : ∀ (m : Nat) (src : Int32) (L V S H LA F O R C SN SO SS ST SA RO GO GR GQ LL : Nat → Int32), m ≤ k → cs_A k SN H LA LL → cs_B m src L S F O R C RO GO GR GQ → P (nI m, src, L, V, S, SN, H, LA, F, O, R, C, SN, SO, SS, ST, SA) (L, V, RO, F, GO, GR, GQ, O, R, H, LL)) (I : i_Rel k u v) : P u v := by
  obtain ⟨fm, src, L, V, S, LN, H, LA, F, O, R, C, SN, SO, SS, ST, SA⟩ := u
  obtain ⟨L2, V2, RO, F2, GO, GR, GQ, O2, R2, H2, LL⟩ := v
  obtain ⟨m, e1, hm, e2, e3, e4, e5, e6, e7, e8, hA, hB⟩ := I
  subst e1
  subst e2
  subst e3
  subst e4
  subst e5
  subst e6
  subst e7
  subst e8
  exact h m src L2 V2 S H2 LA F2 O2 R2 C LN SO SS ST SA RO GO GR GQ LL hm hA hB
theorem cs_A_up {k : Nat} {SN H LA LL : Nat → Int32} (h : cs_A k SN H LA LL) : cs_A (k + 5) SN H LA LL := by
  intro i
  obtain ⟨h1, h2, h3⟩ := h i
  exact ⟨h1, by omega, h3⟩
theorem i_up {k : Nat} {u : SX} {v : SY} (h : i_Rel k u v) : i_Rel (k + 5) u v := by
  refine cs_el (P := fun u v => i_Rel (k + 5) u v) ?_ h
  intro m src L V S H LA F O R C SN SO SS ST SA RO GO GR GQ LL hm hA hB
  exact cs_in (by omega) (cs_A_up hA) hB
theorem cs_z0 : 0 ≤ (0 : Int32).toInt := by decide
theorem cs_z1 : (0 : Int32).toInt ≤ ((1 : Nat) : Int) := by decide
theorem cs_z2 : (0 : Int32).toInt ≤ ((0 : Nat) : Int) := by decide
theorem i_vc0 (k0 : Int32) : wpX_init (fun u => wpY_init (fun v => i_Rel 1 u v) k0) k0 := by
  unfold wpX_init wpY_init
  refine cs_in (m := 0) (by omega) ?_ ?_
  · intro i
    exact ⟨cs_z0, cs_z1, fun _ => rfl, fun h => absurd rfl h⟩
  · refine ⟨fun i => ?_, fun i => cs_lo0, fun i => ⟨cs_z0, cs_z2⟩, fun o h => absurd rfl h, fun i h => absurd rfl h⟩
    exact vp_in_nI (n := 0) (by omega) (by omega)
end
section
/-! the two answers to 'is it genuine' are one; what each store keeps -/
def cs_val (L S F O R C : Nat → Int32) (a : Nat) : Prop := F a ≠ 0 ∧ L (O a).toNatClampNeg ≠ 0 ∧ cs_mix (S (O a).toNatClampNeg ^^^ R a) = C a
def cs_gen (L RO F GO GR GQ O R : Nat → Int32) (a : Nat) : Prop := F a ≠ 0 ∧ O a = GO a ∧ R a = GR a ∧ L (O a).toNatClampNeg ≠ 0 ∧ RO (O a).toNatClampNeg = GQ a
section
variable {k m : Nat} {src : Int32} {L S H LA F O R C SN RO GO GR GQ LL : Nat → Int32}
theorem cs_made_lo {s : Int32} (h : cs_made src m s) : ∀ i, i < 4 → bt s i = false := by
  obtain ⟨j, _, rfl⟩ := h
  exact cs_sec_lo src j
theorem cs_made_up {s : Int32} (h : cs_made src m s) : cs_made src (m + 1) s := by
  obtain ⟨j, hj, e⟩ := h
  exact ⟨j, by omega, e⟩
theorem cs_made_ne {s : Int32} (h : cs_made src m s) (hm : m < 4000) : s ≠ cs_sec src (m + 1) := by
  obtain ⟨j, hj, rfl⟩ := h
  intro e
  have := cs_sec_inj (by omega) (by omega) e
  omega
theorem cs_vg (hB : cs_B m src L S F O R C RO GO GR GQ) (a : Nat) : cs_val L S F O R C a ↔ cs_gen L RO F GO GR GQ O R a := by
  obtain ⟨hO, hR, _, hL, hF⟩ := hB
  constructor
  · rintro ⟨f, l, e⟩
    obtain ⟨g1, g2, _, s, hs, hc, hi⟩ := hF a f
    rw [hc] at e
    obtain ⟨e1, e2⟩ := cs_xor_inj (cs_made_lo (hL _ l)) (cs_made_lo hs) (hR a) g2 (cs_mix_inj e)
    obtain ⟨i1, i2⟩ := (hi _ l).mp e1.symm
    exact ⟨f, cs_cl_inj (hO a) g1 i1, e2, l, i2⟩
  · rintro ⟨f, eo, er, l, eq⟩
    obtain ⟨_, _, _, s, hs, hc, hi⟩ := hF a f
    have e1 : s = S (O a).toNatClampNeg := (hi _ l).mpr ⟨by rw [eo], eq⟩
    exact ⟨f, l, by rw [hc, e1, er]⟩
theorem cs_all {P : Int32 → Prop} {f : Nat → Int32} (h : ∀ i, P (f i)) (a : Nat) {x : Int32} (hx : P x) : ∀ i, P (upd f a x i) := by
  intro i
  by_cases e : i = a
  · rw [e, pk_us]; exact hx
  · rw [pk_un e]; exact h i
/-- a new secret for object o, and a slot given out with it -/
theorem cs_B_fresh (hB : cs_B m src L S F O R C RO GO GR GQ) (hm : m < 4000) {o r : Int32} (ho : vp_in o 8) (hr : cs_lo r) {L' : Nat → Int32} (hL' : ∀ x, x ≠ o.toNatClampNeg → L' x ≠ 0 → L x ≠ 0) (a : Nat) (f : Int32) :
    cs_B (m + 1) src L' (upd S o.toNatClampNeg (cs_sec src (m + 1))) (upd F a f) (upd O a o) (upd R a r) (upd C a (cs_mix (cs_sec src (m + 1) ^^^ r))) (upd RO o.toNatClampNeg (RO o.toNatClampNeg + 1)) (upd GO a o) (upd GR a r) (upd GQ a (RO o.toNatClampNeg + 1)) := by
  obtain ⟨hO, hR, hRO, hL, hF⟩ := hB
  have hinc : (RO o.toNatClampNeg + 1).toInt = (RO o.toNatClampNeg).toInt + 1 := cs_inc (hRO _).1 (by have := (hRO o.toNatClampNeg).2; omega)
  refine ⟨cs_all (P := fun z => vp_in z 8) hO a ho, cs_all (P := cs_lo) hR a hr, fun x => ?_, fun x hx => ?_, fun i hi => ?_⟩
  · by_cases e : x = o.toNatClampNeg
    · rw [e, pk_us, hinc]
      have := hRO o.toNatClampNeg
      omega
    · rw [pk_un e]
      have := hRO x
      omega
  · by_cases e : x = o.toNatClampNeg
    · rw [e, pk_us]
      exact ⟨m + 1, by omega, rfl⟩
    · rw [pk_un e]
      exact cs_made_up (hL x (hL' x e hx))
  · by_cases ei : i = a
    · rw [ei, pk_us, pk_us, pk_us, pk_us]
      refine ⟨ho, hr, by rw [pk_us]; exact Int.le_refl _, cs_sec src (m + 1), ⟨m + 1, by omega, rfl⟩, rfl, fun x hx => ?_⟩
      by_cases e : x = o.toNatClampNeg
      · rw [e, pk_us, pk_us]
        exact ⟨fun _ => ⟨rfl, rfl⟩, fun _ => rfl⟩
      · rw [pk_un e]
        exact ⟨fun z => absurd z.symm (cs_made_ne (hL x (hL' x e hx)) hm), fun z => absurd z.1 e⟩
    · rw [pk_un ei] at hi
      rw [pk_un ei, pk_un ei, pk_un ei, pk_un ei]
      obtain ⟨g1, g2, g3, s, hs, hc, hiff⟩ := hF i hi
      refine ⟨g1, g2, ?_, s, cs_made_up hs, hc, fun x hx => ?_⟩
      · by_cases e : (GO i).toNatClampNeg = o.toNatClampNeg
        · rw [e] at g3
          rw [e, pk_us, hinc]
          omega
        · rw [pk_un e]
          exact g3
      · by_cases e : x = o.toNatClampNeg
        · rw [e, pk_us, pk_us]
          refine ⟨fun z => absurd z (cs_made_ne hs hm), fun z => ?_⟩
          obtain ⟨z1, z2⟩ := z
          rw [← z1, ← z2, hinc] at g3
          omega
        · rw [pk_un e, pk_un e]
          exact hiff x (hL' x e hx)
/-- a slot given out for the object of a genuine one -/
theorem cs_B_put (hB : cs_B m src L S F O R C RO GO GR GQ) {b : Nat} (hg : cs_gen L RO F GO GR GQ O R b) {r : Int32} (hr : cs_lo r) (a : Nat) (f : Int32) :
    cs_B m src L S (upd F a f) (upd O a (O b)) (upd R a r) (upd C a (cs_mix (S (O b).toNatClampNeg ^^^ r))) RO (upd GO a (O b)) (upd GR a r) (upd GQ a (RO (O b).toNatClampNeg)) := by
  obtain ⟨hO, hR, hRO, hL, hF⟩ := hB
  refine ⟨cs_all (P := fun z => vp_in z 8) hO a (hO b), cs_all (P := cs_lo) hR a hr, hRO, hL, fun i hi => ?_⟩
  by_cases ei : i = a
  · obtain ⟨f1, eo, er, l, eq⟩ := hg
    obtain ⟨g1, g2, g3, s, hs, hc, hiff⟩ := hF b f1
    have e1 : s = S (O b).toNatClampNeg := (hiff _ l).mpr ⟨by rw [eo], eq⟩
    rw [ei, pk_us, pk_us, pk_us, pk_us]
    refine ⟨hO b, hr, Int.le_refl _, s, hs, by rw [e1], ?_⟩
    rw [eq, eo]
    exact hiff
  · rw [pk_un ei] at hi
    rw [pk_un ei, pk_un ei, pk_un ei, pk_un ei]
    exact hF i hi
theorem cs_B_copy (hB : cs_B m src L S F O R C RO GO GR GQ) (a b : Nat) {f : Int32} (hf : f ≠ 0 → F b ≠ 0) :
    cs_B m src L S (upd F a f) (upd O a (O b)) (upd R a (R b)) (upd C a (C b)) RO (upd GO a (GO b)) (upd GR a (GR b)) (upd GQ a (GQ b)) := by
  obtain ⟨hO, hR, hRO, hL, hF⟩ := hB
  refine ⟨cs_all (P := fun z => vp_in z 8) hO a (hO b), cs_all (P := cs_lo) hR a (hR b), hRO, hL, fun i hi => ?_⟩
  by_cases ei : i = a
  · rw [ei, pk_us] at hi
    rw [ei, pk_us, pk_us, pk_us, pk_us]
    exact hF b (hf hi)
  · rw [pk_un ei] at hi
    rw [pk_un ei, pk_un ei, pk_un ei, pk_un ei]
    exact hF i hi
theorem cs_B_kill (hB : cs_B m src L S F O R C RO GO GR GQ) {L' : Nat → Int32} (hL' : ∀ x, L' x ≠ 0 → L x ≠ 0) : cs_B m src L' S F O R C RO GO GR GQ := by
  obtain ⟨hO, hR, hRO, hL, hF⟩ := hB
  refine ⟨hO, hR, hRO, fun x hx => hL x (hL' x hx), fun i hi => ?_⟩
  obtain ⟨g1, g2, g3, s, hs, hc, hiff⟩ := hF i hi
  exact ⟨g1, g2, g3, s, hs, hc, fun x hx => hiff x (hL' x hx)⟩
theorem cs_B_clear (hB : cs_B m src L S F O R C RO GO GR GQ) {F' : Nat → Int32} (hF' : ∀ x, F' x ≠ 0 → F x ≠ 0) : cs_B m src L S F' O R C RO GO GR GQ := by
  obtain ⟨hO, hR, hRO, hL, hF⟩ := hB
  exact ⟨hO, hR, hRO, hL, fun i hi => hF i (hF' i hi)⟩
theorem cs_B_tamper (hB : cs_B m src L S F O R C RO GO GR GQ) (a : Nat) (b : Int32) :
    cs_B m src L S F (upd O a (O a ^^^ ((b >>> ((4 : Int32) &&& 31)) &&& 7))) (upd R a (R a ^^^ (b &&& 15))) C RO GO GR GQ := by
  obtain ⟨hO, hR, hRO, hL, hF⟩ := hB
  exact ⟨cs_all (P := fun z => vp_in z 8) hO a (cs_in_xor (hO a) _ rfl), cs_all (P := cs_lo) hR a (cs_lo_xor (hR a) (cs_lo_and15 b)), hRO, hL, hF⟩
theorem cs_upd0 (f : Nat → Int32) (a : Nat) : ∀ x, upd f a (vp_nar .boolean 0) x ≠ 0 → f x ≠ 0 := by
  intro x hx
  by_cases e : x = a
  · rw [e, pk_us] at hx
    exact absurd rfl hx
  · rw [pk_un e] at hx
    exact hx
theorem cs_nar_ne {x : Int32} (h : vp_nar .boolean x ≠ 0) : x ≠ 0 := by
  intro e
  rw [e] at h
  exact absurd rfl h
/-- a request was answered -/
theorem cs_A_req (hA : cs_A k SN H LA LL) (hk : k + 5 ≤ 2561) (p : Nat) (b : Int32) {r r' : Int32} (er : r' = r) : cs_A (k + 5) (upd SN p (SN p + 1)) (upd H p b) (upd LA p r) (upd LL p r') := by
  intro i
  by_cases e : i = p
  · rw [e, pk_us, pk_us, pk_us, pk_us]
    obtain ⟨h1, h2, _⟩ := hA p
    have hinc := cs_inc h1 (by omega)
    refine ⟨by omega, by omega, fun z => ?_, fun _ => er⟩
    have z2 : (SN p + 1).toInt = 0 := by rw [z]; rfl
    omega
  · rw [pk_un e, pk_un e, pk_un e, pk_un e]
    exact cs_A_up hA i
theorem cs_A_restart (hA : cs_A k SN H LA LL) : cs_A (k + 5) SN (upd (upd H 0 (vp_nar .boolean 0)) 1 (vp_nar .boolean 0)) (upd (upd LA 0 0) 1 0) LL := by
  intro i
  obtain ⟨h1, h2, h3, h4⟩ := cs_A_up hA i
  by_cases e1 : i = 1
  · rw [e1, pk_us]
    rw [e1] at h1 h2
    exact ⟨h1, h2, fun _ => rfl, fun z => absurd rfl z⟩
  · rw [pk_un e1, pk_un e1]
    by_cases e0 : i = 0
    · rw [e0, pk_us]
      rw [e0] at h1 h2
      exact ⟨h1, h2, fun _ => rfl, fun z => absurd rfl z⟩
    · rw [pk_un e0, pk_un e0]
      exact ⟨h1, h2, h3, h4⟩
theorem cs_A_lt (hA : cs_A k SN H LA LL) (hk : k + 5 ≤ 2561) (p : Nat) : SN p < SN p + 1 := by
  obtain ⟨h1, h2, _⟩ := hA p
  rw [Int32.lt_iff_toInt_lt, cs_inc h1 (by omega)]
  omega
end
end
section
/-! X's own methods, each once, the post general -/
theorem cs_i0 : (0 : Int32).toInt = 0 := by decide
theorem cs_i1 : (1 : Int32).toInt = 1 := by decide
theorem cs_i7 : (7 : Int32).toInt = 7 := by decide
theorem cs_xbu0 {post : Int32 → Prop} {p : Int32} (h : vp_in p 2) (hp : post 0) : wpX_badUser post p := by
  rw [vp_in_iff] at h
  refine br_f ?_ (br_t ?_ hp)
  · rw [Int32.lt_iff_toInt_lt, cs_i0]; omega
  · rw [Int32.le_iff_toInt_le, cs_i1]; omega
theorem cs_xbu1 {post : Int32 → Prop} {p : Int32} (h : ¬ vp_in p 2) (hp : post 1) : wpX_badUser post p := by
  rw [vp_in_iff] at h
  refine br_c (fun _ => hp) fun hn => br_f ?_ hp
  rw [Int32.lt_iff_toInt_lt, cs_i0] at hn
  rw [Int32.le_iff_toInt_le, cs_i1]; omega
theorem cs_xbs0 {post : Int32 → Prop} {p : Int32} (h : vp_in p 8) (hp : post 0) : wpX_badSlot post p := by
  rw [vp_in_iff] at h
  refine br_f ?_ (br_t ?_ hp)
  · rw [Int32.lt_iff_toInt_lt, cs_i0]; omega
  · rw [Int32.le_iff_toInt_le, cs_i7]; omega
theorem cs_xbs1 {post : Int32 → Prop} {p : Int32} (h : ¬ vp_in p 8) (hp : post 1) : wpX_badSlot post p := by
  rw [vp_in_iff] at h
  refine br_c (fun _ => hp) fun hn => br_f ?_ hp
  rw [Int32.lt_iff_toInt_lt, cs_i0] at hn
  rw [Int32.le_iff_toInt_le, cs_i7]; omega
theorem cs_xmix {post : Int32 → Prop} {p : Int32} (h : post (cs_mix p)) : wpX_mix post p := by
  unfold wpX_mix
  exact nm_e (nm_e (nm_e (nm_e h)))
theorem cs_n1 : ¬ (1 : Int32) = 0 := by decide
section
variable {post : Int32 → SX → Prop} {qost : Int32 → Prop} {rost : SX → Prop} {k m : Nat} {fm src p q o r op to arg : Int32} {L V S LN H LA F O R C SN SO SS ST SA : Nat → Int32}
theorem cs_xnew (h : post (cs_sec src (m + 1)) (nI (m + 1), src, L, V, S, LN, H, LA, F, O, R, C, SN, SO, SS, ST, SA)) : wpX_newSecret post (nI m, src, L, V, S, LN, H, LA, F, O, R, C, SN, SO, SS, ST, SA) := by
  unfold wpX_newSecret
  exact nm_r (nI_1 m) h
theorem cs_xvalid (hp : vp_in p 16) (hO : vp_in (O p.toNatClampNeg) 8) (h1 : cs_val L S F O R C p.toNatClampNeg → qost 1) (h0 : ¬ cs_val L S F O R C p.toNatClampNeg → qost 0) : wpX_valid qost (fm, src, L, V, S, LN, H, LA, F, O, R, C, SN, SO, SS, ST, SA) p := by
  unfold wpX_valid
  exact ⟨hp, br_c (fun e => h0 fun v => v.1 e) fun hF => ⟨hp, nm_e ⟨hO, br_c (fun e => h0 fun v => v.2.1 e) fun hL => ⟨hO, hp, cs_xmix ⟨hp, br_c (fun e => h1 ⟨hF, hL, e⟩) fun e => h0 fun v => e v.2.2⟩⟩⟩⟩⟩
theorem cs_xgive {s : Int32} (hs : S o.toNatClampNeg = s) (hp : vp_in p 16) (ho : vp_in o 8) (h : rost (fm, src, L, V, S, LN, H, LA, upd F p.toNatClampNeg (vp_nar .boolean 1), upd O p.toNatClampNeg o, upd R p.toNatClampNeg r, upd C p.toNatClampNeg (cs_mix (s ^^^ r)), SN, SO, SS, ST, SA)) : wpX_give rost (fm, src, L, V, S, LN, H, LA, F, O, R, C, SN, SO, SS, ST, SA) p o r := by
  subst hs
  unfold wpX_give
  exact ⟨hp, nm_e ⟨hp, nm_e ⟨hp, nm_e ⟨ho, cs_xmix ⟨hp, nm_e h⟩⟩⟩⟩⟩
theorem cs_need1 (h : qost 1) : wpX_needed qost 1 := br_f (by decide) (br_f (by decide) (br_t rfl h))
theorem cs_need2 (h : qost 2) : wpX_needed qost 2 := br_f (by decide) (br_f (by decide) (br_f (by decide) (br_t rfl h)))
theorem cs_need3 (h : qost 4) : wpX_needed qost 3 := br_f (by decide) (br_f (by decide) (br_f (by decide) (br_f (by decide) (br_t rfl h))))
theorem cs_need4 (h : qost 8) : wpX_needed qost 4 := br_f (by decide) (br_f (by decide) (br_f (by decide) (br_f (by decide) (br_f (by decide) (br_t rfl h)))))
theorem cs_need5 (h : qost 0) : wpX_needed qost 5 := br_f (by decide) (br_t (by decide) h)
/-! create: the first object that isn't living -/
theorem cs_xc_loop {e : Nat} (he : e ≤ 8) (hl : ∀ i, i < e → L i ≠ 0) (hd : e = 8 ∨ L e = 0) (h : wX_serveCreate_23 post p (nI e) fm src L V S LN H LA F O R C SN SO SS ST SA) : ∀ d j, j + d = e → wX_serveCreate_2 post p fm src L V S LN H LA F O R C SN SO SS ST SA (d + 1) (nI j) := by
  intro d
  induction d with
  | zero =>
    intro j hj
    have hj : j = e := hj
    subst hj
    rcases hd with hd | hd
    · exact br_t (nI_le (a := 8) (by omega) (by omega)) h
    · by_cases e8 : j = 8
      · exact br_t (nI_le (a := 8) (by omega) (by omega)) h
      · exact br_f (nI_ge (b := 8) (by omega) (by omega)) ⟨vp_in_nI (by omega) (by omega), br_t (by rw [nI_clamp (by omega)]; exact hd) h⟩
  | succ d ih =>
    intro j hj
    exact br_f (nI_ge (b := 8) (by omega) (by omega)) ⟨vp_in_nI (by omega) (by omega), br_f (by rw [nI_clamp (by omega)]; exact hl j (by omega)) (nm_r (nI_1 j) (ih (j + 1) (by omega)))⟩
theorem cs_xc_full (hl : ∀ i, i < 8 → L i ≠ 0) (h : post (-4) (fm, src, L, V, S, LN, H, LA, F, O, R, C, SN, SO, SS, ST, SA)) : wpX_serveCreate post (fm, src, L, V, S, LN, H, LA, F, O, R, C, SN, SO, SS, ST, SA) p := by
  unfold wpX_serveCreate
  refine ⟨8 + 1, cs_xc_loop (e := 8) (by omega) hl (Or.inl rfl) ?_ 8 0 (by omega)⟩
  unfold wX_serveCreate_23
  exact br_t rfl h
theorem cs_xc_at {e : Nat} (he : e < 8) (hl : ∀ i, i < e → L i ≠ 0) (hd : L e = 0) (hp : vp_in p 16) (h : post (nI e) (nI (m + 1), src, upd L (nI e).toNatClampNeg (vp_nar .boolean 1), upd V (nI e).toNatClampNeg 0, upd S (nI e).toNatClampNeg (cs_sec src (m + 1)), LN, H, LA, upd F p.toNatClampNeg (vp_nar .boolean 1), upd O p.toNatClampNeg (nI e), upd R p.toNatClampNeg 15, upd C p.toNatClampNeg (cs_mix (cs_sec src (m + 1) ^^^ 15)), SN, SO, SS, ST, SA)) : wpX_serveCreate post (nI m, src, L, V, S, LN, H, LA, F, O, R, C, SN, SO, SS, ST, SA) p := by
  have hin : vp_in (nI e) 8 := vp_in_nI he (by omega)
  have hne : ¬ nI e = 8 := by
    intro z
    have z2 : e = 8 := (nI_eq (b := 8) (by omega) (by omega)).mp z
    omega
  unfold wpX_serveCreate
  refine ⟨e + 1, cs_xc_loop (e := e) (by omega) hl (Or.inr hd) ?_ e 0 (by omega)⟩
  unfold wX_serveCreate_23
  exact br_f hne ⟨hin, nm_e ⟨hin, nm_e (cs_xnew ⟨hin, nm_e (cs_xgive pk_us hp hin h)⟩)⟩⟩
/-! serve, by the kind of request -/
theorem cs_xs0 (h : wpX_serveCreate post (fm, src, L, V, S, LN, H, LA, F, O, R, C, SN, SO, SS, ST, SA) p) : wpX_serve post (fm, src, L, V, S, LN, H, LA, F, O, R, C, SN, SO, SS, ST, SA) 0 p to arg := by
  unfold wpX_serve
  exact br_t rfl h
theorem cs_xs_bad {c n : Int32} (hop : ¬ op = 0) (hn : ∀ qost : Int32 → Prop, qost n → wpX_needed qost op) (hp : vp_in p 16) (hO : vp_in (O p.toNatClampNeg) 8) (hc : c = R p.toNatClampNeg) (hv : ¬ (cs_val L S F O R C p.toNatClampNeg ∧ c &&& n = n)) (h : post (-3) (fm, src, L, V, S, LN, H, LA, F, O, R, C, SN, SO, SS, ST, SA)) : wpX_serve post (fm, src, L, V, S, LN, H, LA, F, O, R, C, SN, SO, SS, ST, SA) op p to arg := by
  subst hc
  unfold wpX_serve
  exact br_f hop (cs_xvalid hp hO (fun v => hn _ (br_f cs_n1 ⟨hp, br_f (fun z => hv ⟨v, z⟩) h⟩)) (fun _ => hn _ (br_t rfl h)))
theorem cs_xs1 (hp : vp_in p 16) (hO : vp_in (O p.toNatClampNeg) 8) (hv : cs_val L S F O R C p.toNatClampNeg) (hr : R p.toNatClampNeg &&& 1 = 1) (h : post (V (O p.toNatClampNeg).toNatClampNeg) (fm, src, L, V, S, LN, H, LA, F, O, R, C, SN, SO, SS, ST, SA)) : wpX_serve post (fm, src, L, V, S, LN, H, LA, F, O, R, C, SN, SO, SS, ST, SA) 1 p to arg := by
  unfold wpX_serve
  exact br_f (by decide) (cs_xvalid hp hO (fun _ => cs_need1 (br_f cs_n1 ⟨hp, br_t hr ⟨hp, nm_e (br_f (by decide) (br_f (by decide) (br_t rfl ⟨hO, h⟩)))⟩⟩)) (fun z => absurd hv z))
theorem cs_xs2 (hp : vp_in p 16) (hO : vp_in (O p.toNatClampNeg) 8) (hv : cs_val L S F O R C p.toNatClampNeg) (hr : R p.toNatClampNeg &&& 2 = 2) (h : post (upd V (O p.toNatClampNeg).toNatClampNeg (V (O p.toNatClampNeg).toNatClampNeg + arg) (O p.toNatClampNeg).toNatClampNeg) (fm, src, L, upd V (O p.toNatClampNeg).toNatClampNeg (V (O p.toNatClampNeg).toNatClampNeg + arg), S, LN, H, LA, F, O, R, C, SN, SO, SS, ST, SA)) : wpX_serve post (fm, src, L, V, S, LN, H, LA, F, O, R, C, SN, SO, SS, ST, SA) 2 p to arg := by
  unfold wpX_serve
  exact br_f (by decide) (cs_xvalid hp hO (fun _ => cs_need2 (br_f cs_n1 ⟨hp, br_t hr ⟨hp, nm_e (br_f (by decide) (br_f (by decide) (br_f (by decide) (br_t rfl ⟨hO, hO, nm_e ⟨hO, h⟩⟩))))⟩⟩)) (fun z => absurd hv z))
theorem cs_xs3 (hp : vp_in p 16) (hO : vp_in (O p.toNatClampNeg) 8) (hv : cs_val L S F O R C p.toNatClampNeg) (hr : R p.toNatClampNeg &&& 4 = 4) (h : post 0 (fm, src, upd L (O p.toNatClampNeg).toNatClampNeg (vp_nar .boolean 0), V, S, LN, H, LA, F, O, R, C, SN, SO, SS, ST, SA)) : wpX_serve post (fm, src, L, V, S, LN, H, LA, F, O, R, C, SN, SO, SS, ST, SA) 3 p to arg := by
  unfold wpX_serve
  exact br_f (by decide) (cs_xvalid hp hO (fun _ => cs_need3 (br_f cs_n1 ⟨hp, br_t hr ⟨hp, nm_e (br_f (by decide) (br_f (by decide) (br_f (by decide) (br_f (by decide) (br_t rfl ⟨hO, nm_e h⟩)))))⟩⟩)) (fun z => absurd hv z))
theorem cs_xs4 (hp : vp_in p 16) (hO : vp_in (O p.toNatClampNeg) 8) (hv : cs_val L S F O R C p.toNatClampNeg) (hr : R p.toNatClampNeg &&& 8 = 8) (h : post 0 (nI (m + 1), src, L, V, upd S (O p.toNatClampNeg).toNatClampNeg (cs_sec src (m + 1)), LN, H, LA, upd F p.toNatClampNeg (vp_nar .boolean 1), upd O p.toNatClampNeg (O p.toNatClampNeg), upd R p.toNatClampNeg (R p.toNatClampNeg), upd C p.toNatClampNeg (cs_mix (cs_sec src (m + 1) ^^^ R p.toNatClampNeg)), SN, SO, SS, ST, SA)) : wpX_serve post (nI m, src, L, V, S, LN, H, LA, F, O, R, C, SN, SO, SS, ST, SA) 4 p to arg := by
  unfold wpX_serve
  exact br_f (by decide) (cs_xvalid hp hO (fun _ => cs_need4 (br_f cs_n1 ⟨hp, br_t hr ⟨hp, nm_e (br_f (by decide) (br_f (by decide) (br_f (by decide) (br_f (by decide) (br_f (by decide) (br_t rfl (cs_xnew ⟨hO, nm_e ⟨hp, cs_xgive pk_us hp hO h⟩⟩)))))))⟩⟩)) (fun z => absurd hv z))
theorem cs_xs5 (hp : vp_in p 16) (ht : vp_in to 16) (hO : vp_in (O p.toNatClampNeg) 8) (hv : cs_val L S F O R C p.toNatClampNeg) (h : post (upd R to.toNatClampNeg (R p.toNatClampNeg &&& arg) to.toNatClampNeg) (fm, src, L, V, S, LN, H, LA, upd F to.toNatClampNeg (vp_nar .boolean 1), upd O to.toNatClampNeg (O p.toNatClampNeg), upd R to.toNatClampNeg (R p.toNatClampNeg &&& arg), upd C to.toNatClampNeg (cs_mix (S (O p.toNatClampNeg).toNatClampNeg ^^^ (R p.toNatClampNeg &&& arg))), SN, SO, SS, ST, SA)) : wpX_serve post (fm, src, L, V, S, LN, H, LA, F, O, R, C, SN, SO, SS, ST, SA) 5 p to arg := by
  unfold wpX_serve
  exact br_f (by decide) (cs_xvalid hp hO (fun _ => cs_need5 (br_f cs_n1 ⟨hp, br_t Int32.and_zero ⟨hp, nm_e (br_f (by decide) (br_t (by decide) ⟨hp, cs_xgive rfl ht hO ⟨ht, h⟩⟩))⟩⟩)) (fun z => absurd hv z))
end
end
section
/-! X's requests -/
section
variable {post : Int32 → SX → Prop} {k m : Nat} {fm src p q t r op arg : Int32} {L V S LN H LA F O R C SN SO SS ST SA : Nat → Int32} {fm2 src2 : Int32} {L2 V2 S2 LN2 H2 LA2 F2 O2 R2 C2 SN2 SO2 SS2 ST2 SA2 : Nat → Int32}
theorem cs_xreq (hu : vp_in p 2) (hlt : SN p.toNatClampNeg < SN p.toNatClampNeg + 1) (h : ∀ post' : Int32 → SX → Prop, post' r (fm2, src2, L2, V2, S2, LN2, H2, LA2, F2, O2, R2, C2, SN2, SO2, SS2, ST2, SA2) → wpX_serve post' (fm, src, L, V, S, upd SN p.toNatClampNeg (SN p.toNatClampNeg + 1), upd H p.toNatClampNeg (vp_nar .boolean 1), LA, F, O, R, C, upd SN p.toNatClampNeg (SN p.toNatClampNeg + 1), upd SO p.toNatClampNeg op, upd SS p.toNatClampNeg (p * 8 + q), upd ST p.toNatClampNeg (p * 8 + t), upd SA p.toNatClampNeg arg) op (p * 8 + q) (p * 8 + t) arg) (hp : post r (fm2, src2, L2, V2, S2, LN2, H2, upd LA2 p.toNatClampNeg r, F2, O2, R2, C2, SN2, SO2, SS2, ST2, SA2)) : wpX_request post (fm, src, L, V, S, SN, H, LA, F, O, R, C, SN, SO, SS, ST, SA) p op q t arg := by
  unfold wpX_request
  refine ⟨hu, hu, nm_e ⟨hu, nm_e ⟨hu, nm_e ⟨hu, nm_e ⟨hu, nm_e ?_⟩⟩⟩⟩⟩
  unfold wpX_receive
  refine ⟨hu, hu, br_t ?_ ⟨hu, hu, nm_r (e' := upd SN p.toNatClampNeg (SN p.toNatClampNeg + 1)) ?_ ⟨hu, nm_e ⟨hu, hu, hu, hu, ?_⟩⟩⟩⟩
  · rw [pk_us]; exact hlt
  · rw [pk_us]
  · rw [pk_us (f := SO), pk_us (f := SS), pk_us (f := ST), pk_us (f := SA)]
    exact h _ ⟨hu, nm_e ⟨hu, by rw [pk_us]; exact hp⟩⟩
theorem cs_xsl_u (hu : ¬ vp_in p 2) (h : post (-1) (fm, src, L, V, S, LN, H, LA, F, O, R, C, SN, SO, SS, ST, SA)) : wpX_slotRequest post (fm, src, L, V, S, LN, H, LA, F, O, R, C, SN, SO, SS, ST, SA) p q op arg := by
  unfold wpX_slotRequest
  exact cs_xbu1 hu (br_f cs_n1 h)
theorem cs_xsl_s (hu : vp_in p 2) (hs : ¬ vp_in q 8) (h : post (-2) (fm, src, L, V, S, LN, H, LA, F, O, R, C, SN, SO, SS, ST, SA)) : wpX_slotRequest post (fm, src, L, V, S, LN, H, LA, F, O, R, C, SN, SO, SS, ST, SA) p q op arg := by
  unfold wpX_slotRequest
  exact cs_xbu0 hu (br_t rfl (cs_xbs1 hs (br_f cs_n1 h)))
theorem cs_xsl_ok (hu : vp_in p 2) (hs : vp_in q 8) (hlt : SN p.toNatClampNeg < SN p.toNatClampNeg + 1) (h : ∀ post' : Int32 → SX → Prop, post' r (fm2, src2, L2, V2, S2, LN2, H2, LA2, F2, O2, R2, C2, SN2, SO2, SS2, ST2, SA2) → wpX_serve post' (fm, src, L, V, S, upd SN p.toNatClampNeg (SN p.toNatClampNeg + 1), upd H p.toNatClampNeg (vp_nar .boolean 1), LA, F, O, R, C, upd SN p.toNatClampNeg (SN p.toNatClampNeg + 1), upd SO p.toNatClampNeg op, upd SS p.toNatClampNeg (p * 8 + q), upd ST p.toNatClampNeg (p * 8 + q), upd SA p.toNatClampNeg arg) op (p * 8 + q) (p * 8 + q) arg) (hp : post r (fm2, src2, L2, V2, S2, LN2, H2, upd LA2 p.toNatClampNeg r, F2, O2, R2, C2, SN2, SO2, SS2, ST2, SA2)) : wpX_slotRequest post (fm, src, L, V, S, SN, H, LA, F, O, R, C, SN, SO, SS, ST, SA) p q op arg := by
  unfold wpX_slotRequest
  exact cs_xbu0 hu (br_t rfl (cs_xbs0 hs (br_t rfl (cs_xreq hu hlt h hp))))
end
end
section
/-! Y's methods, each once, the post general -/
theorem cs_user {p : Int32} (h : vp_in p 2) : p = 0 ∨ p = 1 := by
  obtain ⟨j, hj, rfl⟩ := vp_in_of h (by omega)
  have : j = 0 ∨ j = 1 := by omega
  rcases this with rfl | rfl
  · exact Or.inl rfl
  · exact Or.inr rfl
theorem cs_nuser {p : Int32} (h : ¬ vp_in p 2) : ¬ p = 0 ∧ ¬ p = 1 := by
  refine ⟨fun e => h ?_, fun e => h ?_⟩
  · rw [e]; exact vp_in_nI (n := 0) (by omega) (by omega)
  · rw [e]; exact vp_in_nI (n := 1) (by omega) (by omega)
section
variable {post : Int32 → SY → Prop} {qost : Int32 → Prop} {rost : SY → Prop} {p q t r o w right arg : Int32} {L V RO F GO GR GQ O R H LL : Nat → Int32}
theorem cs_yref_u (hu : ¬ vp_in p 2) (h : qost (-1)) : wpY_refusal qost (L, V, RO, F, GO, GR, GQ, O, R, H, LL) p q := by
  unfold wpY_refusal
  exact br_f (cs_nuser hu).1 (br_f (cs_nuser hu).2 h)
theorem cs_yref_j (hu : vp_in p 2) (h : wY_refusal_11 qost q L V RO F GO GR GQ O R H LL) : wpY_refusal qost (L, V, RO, F, GO, GR, GQ, O, R, H, LL) p q := by
  unfold wpY_refusal
  rcases cs_user hu with e | e
  · exact br_t e h
  · exact br_c (fun _ => h) (fun _ => br_t e h)
theorem cs_yref_s (hu : vp_in p 2) (hs : ¬ vp_in q 8) (h : qost (-2)) : wpY_refusal qost (L, V, RO, F, GO, GR, GQ, O, R, H, LL) p q := by
  refine cs_yref_j hu ?_
  unfold wY_refusal_11
  rw [vp_in_iff] at hs
  refine br_c (fun _ => h) fun hn => br_f ?_ h
  rw [Int32.lt_iff_toInt_lt, cs_i0] at hn
  rw [Int32.le_iff_toInt_le, cs_i7]; omega
theorem cs_yref_ok (hu : vp_in p 2) (hs : vp_in q 8) (h : qost 0) : wpY_refusal qost (L, V, RO, F, GO, GR, GQ, O, R, H, LL) p q := by
  refine cs_yref_j hu ?_
  unfold wY_refusal_11
  rw [vp_in_iff] at hs
  refine br_f ?_ (br_t ?_ h)
  · rw [Int32.lt_iff_toInt_lt, cs_i0]; omega
  · rw [Int32.le_iff_toInt_le, cs_i7]; omega
theorem cs_yans (hu : vp_in p 2) (h : post r (L, V, RO, F, GO, GR, GQ, O, R, upd H p.toNatClampNeg (vp_nar .boolean 1), upd LL p.toNatClampNeg r)) : wpY_answered post (L, V, RO, F, GO, GR, GQ, O, R, H, LL) p r := by
  unfold wpY_answered
  exact ⟨hu, nm_e ⟨hu, nm_e h⟩⟩
theorem cs_ygive (hw : RO o.toNatClampNeg = w) (hp : vp_in p 16) (ho : vp_in o 8) (h : rost (L, V, RO, upd F p.toNatClampNeg (vp_nar .boolean 1), upd GO p.toNatClampNeg o, upd GR p.toNatClampNeg r, upd GQ p.toNatClampNeg w, upd O p.toNatClampNeg o, upd R p.toNatClampNeg r, H, LL)) : wpY_give rost (L, V, RO, F, GO, GR, GQ, O, R, H, LL) p o r := by
  subst hw
  unfold wpY_give
  exact ⟨hp, nm_e ⟨hp, nm_e ⟨hp, nm_e ⟨ho, hp, nm_e ⟨hp, nm_e ⟨hp, nm_e h⟩⟩⟩⟩⟩⟩
theorem cs_ygen (hu : vp_in p 2) (hs : vp_in q 8) (hO : vp_in (O (p * 8 + q).toNatClampNeg) 8) (h1 : cs_gen L RO F GO GR GQ O R (p * 8 + q).toNatClampNeg → qost 1) (h0 : ¬ cs_gen L RO F GO GR GQ O R (p * 8 + q).toNatClampNeg → qost 0) : wpY_genuine qost (L, V, RO, F, GO, GR, GQ, O, R, H, LL) p q := by
  have ha : vp_in (p * 8 + q) 16 := cs_in_at hu hs
  unfold wpY_genuine
  exact cs_yref_ok hu hs (br_t (by decide) (nm_e ⟨ha, br_c (fun e => h0 fun g => g.1 e) fun hF => ⟨ha, ha, br_c (fun eo => ⟨ha, ha, br_c (fun er => ⟨ha, hO, br_c (fun e => h0 fun g => g.2.2.2.1 e) fun hl => ⟨ha, hO, ha, br_c (fun eq => h1 ⟨hF, eo, er, hl, eq⟩) fun n => h0 fun g => n g.2.2.2.2⟩⟩) fun n => h0 fun g => n g.2.2.1⟩) fun n => h0 fun g => n g.2.1⟩⟩))
theorem cs_yall (hu : vp_in p 2) (hs : vp_in q 8) (hO : vp_in (O (p * 8 + q).toNatClampNeg) 8) (h1 : cs_gen L RO F GO GR GQ O R (p * 8 + q).toNatClampNeg ∧ R (p * 8 + q).toNatClampNeg &&& right = right → qost 1) (h0 : ¬ (cs_gen L RO F GO GR GQ O R (p * 8 + q).toNatClampNeg ∧ R (p * 8 + q).toNatClampNeg &&& right = right) → qost 0) : wpY_allows qost (L, V, RO, F, GO, GR, GQ, O, R, H, LL) p q right := by
  have ha : vp_in (p * 8 + q) 16 := cs_in_at hu hs
  unfold wpY_allows
  exact cs_ygen hu hs hO (fun g => br_f cs_n1 ⟨ha, br_c (fun e => h1 ⟨g, e⟩) fun e => h0 fun z => e z.2⟩) (fun g => br_t rfl (h0 fun z => g z.1))
theorem cs_yread_bad (hu : vp_in p 2) (hs : vp_in q 8) (hO : vp_in (O (p * 8 + q).toNatClampNeg) 8) (hv : ¬ (cs_gen L RO F GO GR GQ O R (p * 8 + q).toNatClampNeg ∧ R (p * 8 + q).toNatClampNeg &&& 1 = 1)) (h : post (-3) (L, V, RO, F, GO, GR, GQ, O, R, upd H p.toNatClampNeg (vp_nar .boolean 1), upd LL p.toNatClampNeg (-3))) : wpY_read post (L, V, RO, F, GO, GR, GQ, O, R, H, LL) p q := by
  unfold wpY_read
  exact cs_yref_ok hu hs (br_t (by decide) (cs_yall hu hs hO (fun z => absurd z hv) (fun _ => br_t rfl (cs_yans hu h))))
theorem cs_yadd_bad (hu : vp_in p 2) (hs : vp_in q 8) (hO : vp_in (O (p * 8 + q).toNatClampNeg) 8) (hv : ¬ (cs_gen L RO F GO GR GQ O R (p * 8 + q).toNatClampNeg ∧ R (p * 8 + q).toNatClampNeg &&& 2 = 2)) (h : post (-3) (L, V, RO, F, GO, GR, GQ, O, R, upd H p.toNatClampNeg (vp_nar .boolean 1), upd LL p.toNatClampNeg (-3))) : wpY_add post (L, V, RO, F, GO, GR, GQ, O, R, H, LL) p q arg := by
  unfold wpY_add
  exact cs_yref_ok hu hs (br_t (by decide) (cs_yall hu hs hO (fun z => absurd z hv) (fun _ => br_t rfl (cs_yans hu h))))
theorem cs_ydestroy_bad (hu : vp_in p 2) (hs : vp_in q 8) (hO : vp_in (O (p * 8 + q).toNatClampNeg) 8) (hv : ¬ (cs_gen L RO F GO GR GQ O R (p * 8 + q).toNatClampNeg ∧ R (p * 8 + q).toNatClampNeg &&& 4 = 4)) (h : post (-3) (L, V, RO, F, GO, GR, GQ, O, R, upd H p.toNatClampNeg (vp_nar .boolean 1), upd LL p.toNatClampNeg (-3))) : wpY_destroy post (L, V, RO, F, GO, GR, GQ, O, R, H, LL) p q := by
  unfold wpY_destroy
  exact cs_yref_ok hu hs (br_t (by decide) (cs_yall hu hs hO (fun z => absurd z hv) (fun _ => br_t rfl (cs_yans hu h))))
theorem cs_yrevoke_bad (hu : vp_in p 2) (hs : vp_in q 8) (hO : vp_in (O (p * 8 + q).toNatClampNeg) 8) (hv : ¬ (cs_gen L RO F GO GR GQ O R (p * 8 + q).toNatClampNeg ∧ R (p * 8 + q).toNatClampNeg &&& 8 = 8)) (h : post (-3) (L, V, RO, F, GO, GR, GQ, O, R, upd H p.toNatClampNeg (vp_nar .boolean 1), upd LL p.toNatClampNeg (-3))) : wpY_revoke post (L, V, RO, F, GO, GR, GQ, O, R, H, LL) p q := by
  unfold wpY_revoke
  exact cs_yref_ok hu hs (br_t (by decide) (cs_yall hu hs hO (fun z => absurd z hv) (fun _ => br_t rfl (cs_yans hu h))))
theorem cs_yread_ok (hu : vp_in p 2) (hs : vp_in q 8) (hO : vp_in (O (p * 8 + q).toNatClampNeg) 8) (hv : cs_gen L RO F GO GR GQ O R (p * 8 + q).toNatClampNeg ∧ R (p * 8 + q).toNatClampNeg &&& 1 = 1) (h : post (V (O (p * 8 + q).toNatClampNeg).toNatClampNeg) (L, V, RO, F, GO, GR, GQ, O, R, upd H p.toNatClampNeg (vp_nar .boolean 1), upd LL p.toNatClampNeg (V (O (p * 8 + q).toNatClampNeg).toNatClampNeg))) : wpY_read post (L, V, RO, F, GO, GR, GQ, O, R, H, LL) p q := by
  have ha : vp_in (p * 8 + q) 16 := cs_in_at hu hs
  unfold wpY_read
  exact cs_yref_ok hu hs (br_t (by decide) (cs_yall hu hs hO (fun _ => br_f cs_n1 ⟨ha, hO, cs_yans hu h⟩) (fun z => absurd hv z)))
theorem cs_yadd_ok (hu : vp_in p 2) (hs : vp_in q 8) (hO : vp_in (O (p * 8 + q).toNatClampNeg) 8) (hv : cs_gen L RO F GO GR GQ O R (p * 8 + q).toNatClampNeg ∧ R (p * 8 + q).toNatClampNeg &&& 2 = 2) (h : post (upd V (O (p * 8 + q).toNatClampNeg).toNatClampNeg (V (O (p * 8 + q).toNatClampNeg).toNatClampNeg + arg) (O (p * 8 + q).toNatClampNeg).toNatClampNeg) (L, upd V (O (p * 8 + q).toNatClampNeg).toNatClampNeg (V (O (p * 8 + q).toNatClampNeg).toNatClampNeg + arg), RO, F, GO, GR, GQ, O, R, upd H p.toNatClampNeg (vp_nar .boolean 1), upd LL p.toNatClampNeg (upd V (O (p * 8 + q).toNatClampNeg).toNatClampNeg (V (O (p * 8 + q).toNatClampNeg).toNatClampNeg + arg) (O (p * 8 + q).toNatClampNeg).toNatClampNeg))) : wpY_add post (L, V, RO, F, GO, GR, GQ, O, R, H, LL) p q arg := by
  have ha : vp_in (p * 8 + q) 16 := cs_in_at hu hs
  unfold wpY_add
  exact cs_yref_ok hu hs (br_t (by decide) (cs_yall hu hs hO (fun _ => br_f cs_n1 ⟨ha, nm_e ⟨hO, hO, nm_e ⟨hO, cs_yans hu h⟩⟩⟩) (fun z => absurd hv z)))
theorem cs_ydestroy_ok (hu : vp_in p 2) (hs : vp_in q 8) (hO : vp_in (O (p * 8 + q).toNatClampNeg) 8) (hv : cs_gen L RO F GO GR GQ O R (p * 8 + q).toNatClampNeg ∧ R (p * 8 + q).toNatClampNeg &&& 4 = 4) (h : post 0 (upd L (O (p * 8 + q).toNatClampNeg).toNatClampNeg (vp_nar .boolean 0), V, RO, F, GO, GR, GQ, O, R, upd H p.toNatClampNeg (vp_nar .boolean 1), upd LL p.toNatClampNeg 0)) : wpY_destroy post (L, V, RO, F, GO, GR, GQ, O, R, H, LL) p q := by
  have ha : vp_in (p * 8 + q) 16 := cs_in_at hu hs
  unfold wpY_destroy
  exact cs_yref_ok hu hs (br_t (by decide) (cs_yall hu hs hO (fun _ => br_f cs_n1 ⟨ha, hO, nm_e (cs_yans hu h)⟩) (fun z => absurd hv z)))
theorem cs_yrevoke_ok (hu : vp_in p 2) (hs : vp_in q 8) (hO : vp_in (O (p * 8 + q).toNatClampNeg) 8) (hv : cs_gen L RO F GO GR GQ O R (p * 8 + q).toNatClampNeg ∧ R (p * 8 + q).toNatClampNeg &&& 8 = 8) (h : post 0 (L, V, upd RO (O (p * 8 + q).toNatClampNeg).toNatClampNeg (RO (O (p * 8 + q).toNatClampNeg).toNatClampNeg + 1), upd F (p * 8 + q).toNatClampNeg (vp_nar .boolean 1), upd GO (p * 8 + q).toNatClampNeg (O (p * 8 + q).toNatClampNeg), upd GR (p * 8 + q).toNatClampNeg (R (p * 8 + q).toNatClampNeg), upd GQ (p * 8 + q).toNatClampNeg (RO (O (p * 8 + q).toNatClampNeg).toNatClampNeg + 1), upd O (p * 8 + q).toNatClampNeg (O (p * 8 + q).toNatClampNeg), upd R (p * 8 + q).toNatClampNeg (R (p * 8 + q).toNatClampNeg), upd H p.toNatClampNeg (vp_nar .boolean 1), upd LL p.toNatClampNeg 0)) : wpY_revoke post (L, V, RO, F, GO, GR, GQ, O, R, H, LL) p q := by
  have ha : vp_in (p * 8 + q) 16 := cs_in_at hu hs
  unfold wpY_revoke
  exact cs_yref_ok hu hs (br_t (by decide) (cs_yall hu hs hO (fun _ => br_f cs_n1 (nm_e ⟨ha, hO, hO, nm_e ⟨ha, ha, cs_ygive pk_us ha hO (cs_yans hu h)⟩⟩)) (fun z => absurd hv z)))
/-! create -/
theorem cs_yc_loop {e : Nat} (he : e ≤ 8) (hl : ∀ i, i < e → L i ≠ 0) (h : ∀ n, wY_create_16 post p q L V RO F GO GR GQ O R H LL (n + 1) (nI e)) : ∀ d j, j + d = e → wY_create_16 post p q L V RO F GO GR GQ O R H LL (d + 1) (nI j) := by
  intro d
  induction d with
  | zero =>
    intro j hj
    have hj : j = e := hj
    subst hj
    exact h 0
  | succ d ih =>
    intro j hj
    exact br_f (nI_ge (b := 8) (by omega) (by omega)) ⟨vp_in_nI (by omega) (by omega), br_f (by rw [nI_clamp (by omega)]; exact hl j (by omega)) (nm_r (nI_1 j) (ih (j + 1) (by omega)))⟩
theorem cs_yc_full (hu : vp_in p 2) (hs : vp_in q 8) (hl : ∀ i, i < 8 → L i ≠ 0) (h : post (-4) (L, V, RO, F, GO, GR, GQ, O, R, upd H p.toNatClampNeg (vp_nar .boolean 1), upd LL p.toNatClampNeg (-4))) : wpY_create post (L, V, RO, F, GO, GR, GQ, O, R, H, LL) p q := by
  unfold wpY_create
  exact cs_yref_ok hu hs (br_t (by decide) ⟨8 + 1, cs_yc_loop (e := 8) (by omega) hl (fun n => br_t (nI_le (a := 8) (by omega) (by omega)) (cs_yans hu h)) 8 0 (by omega)⟩)
theorem cs_yc_at (hu : vp_in p 2) (hs : vp_in q 8) {e : Nat} (he : e < 8) (hl : ∀ i, i < e → L i ≠ 0) (hd : L e = 0) (h : post (nI e) (upd L (nI e).toNatClampNeg (vp_nar .boolean 1), upd V (nI e).toNatClampNeg 0, upd RO (nI e).toNatClampNeg (RO (nI e).toNatClampNeg + 1), upd F (p * 8 + q).toNatClampNeg (vp_nar .boolean 1), upd GO (p * 8 + q).toNatClampNeg (nI e), upd GR (p * 8 + q).toNatClampNeg 15, upd GQ (p * 8 + q).toNatClampNeg (RO (nI e).toNatClampNeg + 1), upd O (p * 8 + q).toNatClampNeg (nI e), upd R (p * 8 + q).toNatClampNeg 15, upd H p.toNatClampNeg (vp_nar .boolean 1), upd LL p.toNatClampNeg (nI e))) : wpY_create post (L, V, RO, F, GO, GR, GQ, O, R, H, LL) p q := by
  have ha : vp_in (p * 8 + q) 16 := cs_in_at hu hs
  have hin : vp_in (nI e) 8 := vp_in_nI he (by omega)
  unfold wpY_create
  exact cs_yref_ok hu hs (br_t (by decide) ⟨e + 1, cs_yc_loop (e := e) (by omega) hl (fun n => br_f (nI_ge (b := 8) (by omega) (by omega)) ⟨hin, br_t (by rw [nI_clamp (by omega)]; exact hd) ⟨hin, nm_e ⟨hin, nm_e ⟨hin, hin, nm_e (cs_ygive pk_us ha hin (cs_yans hu h))⟩⟩⟩⟩) e 0 (by omega)⟩)
end
/-- the first index below N that isn't living, or N -/
theorem cs_first (L : Nat → Int32) : ∀ N, ∃ e, e ≤ N ∧ (∀ i, i < e → L i ≠ 0) ∧ (e = N ∨ L e = 0) := by
  intro N
  induction N with
  | zero => exact ⟨0, by omega, fun i hi => absurd hi (by omega), Or.inl rfl⟩
  | succ N ih =>
    obtain ⟨e, h1, h2, h3⟩ := ih
    by_cases z : L e = 0
    · exact ⟨e, by omega, h2, Or.inr z⟩
    · have e1 : e = N := by
        rcases h3 with h3 | h3
        · exact h3
        · exact absurd h3 z
      refine ⟨N + 1, by omega, fun i hi => ?_, Or.inl rfl⟩
      by_cases i1 : i < e
      · exact h2 i i1
      · have : i = e := by omega
        rw [this]; exact z
end
section
/-! the refusals, and the methods without requests, on both sides -/
section
variable {post : Int32 → SY → Prop} {qost : Int32 → Prop} {rost : SY → Prop} {p q t r o w right arg : Int32} {L V RO F GO GR GQ O R H LL : Nat → Int32}
theorem cs_ycreate_u (hu : ¬ vp_in p 2) (h : post (-1) (L, V, RO, F, GO, GR, GQ, O, R, H, LL)) : wpY_create post (L, V, RO, F, GO, GR, GQ, O, R, H, LL) p q := by
  unfold wpY_create
  exact cs_yref_u hu (br_f (by decide) h)
theorem cs_ycreate_s (hu : vp_in p 2) (hs : ¬ vp_in q 8) (h : post (-2) (L, V, RO, F, GO, GR, GQ, O, R, H, LL)) : wpY_create post (L, V, RO, F, GO, GR, GQ, O, R, H, LL) p q := by
  unfold wpY_create
  exact cs_yref_s hu hs (br_f (by decide) h)
theorem cs_yread_u (hu : ¬ vp_in p 2) (h : post (-1) (L, V, RO, F, GO, GR, GQ, O, R, H, LL)) : wpY_read post (L, V, RO, F, GO, GR, GQ, O, R, H, LL) p q := by
  unfold wpY_read
  exact cs_yref_u hu (br_f (by decide) h)
theorem cs_yread_s (hu : vp_in p 2) (hs : ¬ vp_in q 8) (h : post (-2) (L, V, RO, F, GO, GR, GQ, O, R, H, LL)) : wpY_read post (L, V, RO, F, GO, GR, GQ, O, R, H, LL) p q := by
  unfold wpY_read
  exact cs_yref_s hu hs (br_f (by decide) h)
theorem cs_yadd_u (hu : ¬ vp_in p 2) (h : post (-1) (L, V, RO, F, GO, GR, GQ, O, R, H, LL)) : wpY_add post (L, V, RO, F, GO, GR, GQ, O, R, H, LL) p q arg := by
  unfold wpY_add
  exact cs_yref_u hu (br_f (by decide) h)
theorem cs_yadd_s (hu : vp_in p 2) (hs : ¬ vp_in q 8) (h : post (-2) (L, V, RO, F, GO, GR, GQ, O, R, H, LL)) : wpY_add post (L, V, RO, F, GO, GR, GQ, O, R, H, LL) p q arg := by
  unfold wpY_add
  exact cs_yref_s hu hs (br_f (by decide) h)
theorem cs_ydestroy_u (hu : ¬ vp_in p 2) (h : post (-1) (L, V, RO, F, GO, GR, GQ, O, R, H, LL)) : wpY_destroy post (L, V, RO, F, GO, GR, GQ, O, R, H, LL) p q := by
  unfold wpY_destroy
  exact cs_yref_u hu (br_f (by decide) h)
theorem cs_ydestroy_s (hu : vp_in p 2) (hs : ¬ vp_in q 8) (h : post (-2) (L, V, RO, F, GO, GR, GQ, O, R, H, LL)) : wpY_destroy post (L, V, RO, F, GO, GR, GQ, O, R, H, LL) p q := by
  unfold wpY_destroy
  exact cs_yref_s hu hs (br_f (by decide) h)
theorem cs_yrevoke_u (hu : ¬ vp_in p 2) (h : post (-1) (L, V, RO, F, GO, GR, GQ, O, R, H, LL)) : wpY_revoke post (L, V, RO, F, GO, GR, GQ, O, R, H, LL) p q := by
  unfold wpY_revoke
  exact cs_yref_u hu (br_f (by decide) h)
theorem cs_yrevoke_s (hu : vp_in p 2) (hs : ¬ vp_in q 8) (h : post (-2) (L, V, RO, F, GO, GR, GQ, O, R, H, LL)) : wpY_revoke post (L, V, RO, F, GO, GR, GQ, O, R, H, LL) p q := by
  unfold wpY_revoke
  exact cs_yref_s hu hs (br_f (by decide) h)
theorem cs_ycopy_u (hu : ¬ vp_in p 2) (h : post (-1) (L, V, RO, F, GO, GR, GQ, O, R, H, LL)) : wpY_copy post (L, V, RO, F, GO, GR, GQ, O, R, H, LL) p q t := by
  unfold wpY_copy
  exact cs_yref_u hu (br_f (by decide) h)
theorem cs_ycopy_s (hu : vp_in p 2) (hs : ¬ vp_in q 8) (h : post (-2) (L, V, RO, F, GO, GR, GQ, O, R, H, LL)) : wpY_copy post (L, V, RO, F, GO, GR, GQ, O, R, H, LL) p q t := by
  unfold wpY_copy
  exact cs_yref_s hu hs (br_f (by decide) h)
theorem cs_ytamper_u (hu : ¬ vp_in p 2) (h : post (-1) (L, V, RO, F, GO, GR, GQ, O, R, H, LL)) : wpY_tamper post (L, V, RO, F, GO, GR, GQ, O, R, H, LL) p q t := by
  unfold wpY_tamper
  exact cs_yref_u hu (br_f (by decide) h)
theorem cs_ytamper_s (hu : vp_in p 2) (hs : ¬ vp_in q 8) (h : post (-2) (L, V, RO, F, GO, GR, GQ, O, R, H, LL)) : wpY_tamper post (L, V, RO, F, GO, GR, GQ, O, R, H, LL) p q t := by
  unfold wpY_tamper
  exact cs_yref_s hu hs (br_f (by decide) h)
theorem cs_yclear_u (hu : ¬ vp_in p 2) (h : post (-1) (L, V, RO, F, GO, GR, GQ, O, R, H, LL)) : wpY_clear post (L, V, RO, F, GO, GR, GQ, O, R, H, LL) p q := by
  unfold wpY_clear
  exact cs_yref_u hu (br_f (by decide) h)
theorem cs_yclear_s (hu : vp_in p 2) (hs : ¬ vp_in q 8) (h : post (-2) (L, V, RO, F, GO, GR, GQ, O, R, H, LL)) : wpY_clear post (L, V, RO, F, GO, GR, GQ, O, R, H, LL) p q := by
  unfold wpY_clear
  exact cs_yref_s hu hs (br_f (by decide) h)
theorem cs_yrights_u (hu : ¬ vp_in p 2) (h : qost (-1)) : wpY_rights qost (L, V, RO, F, GO, GR, GQ, O, R, H, LL) p q := by
  unfold wpY_rights
  exact cs_yref_u hu (br_f (by decide) h)
theorem cs_yrights_s (hu : vp_in p 2) (hs : ¬ vp_in q 8) (h : qost (-2)) : wpY_rights qost (L, V, RO, F, GO, GR, GQ, O, R, H, LL) p q := by
  unfold wpY_rights
  exact cs_yref_s hu hs (br_f (by decide) h)
theorem cs_yrights_0 (hu : vp_in p 2) (hs : vp_in q 8) (hF : F (p * 8 + q).toNatClampNeg = 0) (h : qost 0) : wpY_rights qost (L, V, RO, F, GO, GR, GQ, O, R, H, LL) p q := by
  unfold wpY_rights
  exact cs_yref_ok hu hs (br_t (by decide) ⟨cs_in_at hu hs, br_t hF h⟩)
theorem cs_yrights_1 (hu : vp_in p 2) (hs : vp_in q 8) (hF : ¬ F (p * 8 + q).toNatClampNeg = 0) (h : qost (R (p * 8 + q).toNatClampNeg)) : wpY_rights qost (L, V, RO, F, GO, GR, GQ, O, R, H, LL) p q := by
  unfold wpY_rights
  exact cs_yref_ok hu hs (br_t (by decide) ⟨cs_in_at hu hs, br_f hF ⟨cs_in_at hu hs, h⟩⟩)
theorem cs_ygenuine_u (hu : ¬ vp_in p 2) (h : qost 0) : wpY_genuine qost (L, V, RO, F, GO, GR, GQ, O, R, H, LL) p q := by
  unfold wpY_genuine
  exact cs_yref_u hu (br_f (by decide) h)
theorem cs_ygenuine_s (hu : vp_in p 2) (hs : ¬ vp_in q 8) (h : qost 0) : wpY_genuine qost (L, V, RO, F, GO, GR, GQ, O, R, H, LL) p q := by
  unfold wpY_genuine
  exact cs_yref_s hu hs (br_f (by decide) h)
theorem cs_yag_u (hu : ¬ vp_in p 2) (h : qost (-1)) : wpY_again qost (L, V, RO, F, GO, GR, GQ, O, R, H, LL) p := by
  unfold wpY_again
  exact br_f (cs_nuser hu).1 (br_f (cs_nuser hu).2 h)
theorem cs_yag_j (hu : vp_in p 2) (h : wY_again_11 qost p L V RO F GO GR GQ O R H LL) : wpY_again qost (L, V, RO, F, GO, GR, GQ, O, R, H, LL) p := by
  unfold wpY_again
  rcases cs_user hu with e | e
  · exact br_t e h
  · exact br_c (fun _ => h) (fun _ => br_t e h)
theorem cs_yag_0 (hu : vp_in p 2) (hH : H p.toNatClampNeg = 0) (h : qost (-6)) : wpY_again qost (L, V, RO, F, GO, GR, GQ, O, R, H, LL) p := by
  refine cs_yag_j hu ?_
  unfold wY_again_11
  exact ⟨hu, br_t hH h⟩
theorem cs_yag_1 (hu : vp_in p 2) (hH : ¬ H p.toNatClampNeg = 0) (h : qost (LL p.toNatClampNeg)) : wpY_again qost (L, V, RO, F, GO, GR, GQ, O, R, H, LL) p := by
  refine cs_yag_j hu ?_
  unfold wY_again_11
  exact ⟨hu, br_f hH ⟨hu, h⟩⟩
theorem cs_ycopy_ok (hu : vp_in p 2) (hs : vp_in q 8) (h : post 0 (L, V, RO, upd F (t &&& 15).toNatClampNeg (vp_nar .boolean (F (p * 8 + q).toNatClampNeg)), upd GO (t &&& 15).toNatClampNeg (GO (p * 8 + q).toNatClampNeg), upd GR (t &&& 15).toNatClampNeg (GR (p * 8 + q).toNatClampNeg), upd GQ (t &&& 15).toNatClampNeg (GQ (p * 8 + q).toNatClampNeg), upd O (t &&& 15).toNatClampNeg (O (p * 8 + q).toNatClampNeg), upd R (t &&& 15).toNatClampNeg (R (p * 8 + q).toNatClampNeg), H, LL)) : wpY_copy post (L, V, RO, F, GO, GR, GQ, O, R, H, LL) p q t := by
  have ha : vp_in (p * 8 + q) 16 := cs_in_at hu hs
  have ht : vp_in (t &&& 15) 16 := pk_andIn t 4 (by decide) (by omega)
  unfold wpY_copy
  exact cs_yref_ok hu hs (br_t (by decide) (nm_e (nm_e ⟨ha, ht, nm_e ⟨ha, ht, nm_e ⟨ha, ht, nm_e ⟨ha, ht, nm_e ⟨ha, ht, nm_e ⟨ha, ht, nm_e h⟩⟩⟩⟩⟩⟩)))
theorem cs_ytamper_0 (hu : vp_in p 2) (hs : vp_in q 8) (hF : F (p * 8 + q).toNatClampNeg = 0) (h : post (-3) (L, V, RO, F, GO, GR, GQ, O, R, H, LL)) : wpY_tamper post (L, V, RO, F, GO, GR, GQ, O, R, H, LL) p q t := by
  unfold wpY_tamper
  exact cs_yref_ok hu hs (br_t (by decide) (nm_e ⟨cs_in_at hu hs, br_t hF h⟩))
theorem cs_ytamper_1 (hu : vp_in p 2) (hs : vp_in q 8) (hF : ¬ F (p * 8 + q).toNatClampNeg = 0) (h : post 0 (L, V, RO, F, GO, GR, GQ, upd O (p * 8 + q).toNatClampNeg (O (p * 8 + q).toNatClampNeg ^^^ ((t >>> ((4 : Int32) &&& 31)) &&& 7)), upd R (p * 8 + q).toNatClampNeg (R (p * 8 + q).toNatClampNeg ^^^ (t &&& 15)), H, LL)) : wpY_tamper post (L, V, RO, F, GO, GR, GQ, O, R, H, LL) p q t := by
  have ha : vp_in (p * 8 + q) 16 := cs_in_at hu hs
  unfold wpY_tamper
  exact cs_yref_ok hu hs (br_t (by decide) (nm_e ⟨ha, br_f hF ⟨ha, ha, nm_e ⟨ha, ha, nm_e h⟩⟩⟩))
theorem cs_yclear_0 (hu : vp_in p 2) (hs : vp_in q 8) (hF : F (p * 8 + q).toNatClampNeg = 0) (h : post 0 (L, V, RO, upd F (p * 8 + q).toNatClampNeg (vp_nar .boolean 0), GO, GR, GQ, O, R, H, LL)) : wpY_clear post (L, V, RO, F, GO, GR, GQ, O, R, H, LL) p q := by
  have ha : vp_in (p * 8 + q) 16 := cs_in_at hu hs
  unfold wpY_clear wY_clear_36
  exact cs_yref_ok hu hs (br_t (by decide) (nm_e ⟨ha, br_t hF ⟨ha, nm_e h⟩⟩))
theorem cs_yclear_1 (hu : vp_in p 2) (hs : vp_in q 8) (hF : ¬ F (p * 8 + q).toNatClampNeg = 0) (h : post 1 (L, V, RO, upd F (p * 8 + q).toNatClampNeg (vp_nar .boolean 0), GO, GR, GQ, O, R, H, LL)) : wpY_clear post (L, V, RO, F, GO, GR, GQ, O, R, H, LL) p q := by
  have ha : vp_in (p * 8 + q) 16 := cs_in_at hu hs
  unfold wpY_clear wY_clear_36
  exact cs_yref_ok hu hs (br_t (by decide) (nm_e ⟨ha, br_f hF ⟨ha, nm_e h⟩⟩))
theorem cs_yrestart (h : rost (L, V, RO, F, GO, GR, GQ, O, R, upd (upd H 0 (vp_nar .boolean 0)) 1 (vp_nar .boolean 0), LL)) : wpY_restart rost (L, V, RO, F, GO, GR, GQ, O, R, H, LL) := by
  unfold wpY_restart
  exact nm_e (nm_e h)
/-! restrict: p user, q from, t to, w rights -/
theorem cs_yrs_u (hu : ¬ vp_in p 2) (h : post (-1) (L, V, RO, F, GO, GR, GQ, O, R, H, LL)) : wpY_restrict post (L, V, RO, F, GO, GR, GQ, O, R, H, LL) p q t w := by
  unfold wpY_restrict wY_restrict_21
  exact cs_yref_u hu (br_f (by decide) (br_f (by decide) h))
theorem cs_yrs_s (hu : vp_in p 2) (hs : ¬ vp_in q 8) (h : post (-2) (L, V, RO, F, GO, GR, GQ, O, R, H, LL)) : wpY_restrict post (L, V, RO, F, GO, GR, GQ, O, R, H, LL) p q t w := by
  unfold wpY_restrict wY_restrict_21
  exact cs_yref_s hu hs (br_f (by decide) (br_f (by decide) h))
theorem cs_yrs_t (hu : vp_in p 2) (hs : vp_in q 8) (ht : ¬ vp_in t 8) (h : post (-2) (L, V, RO, F, GO, GR, GQ, O, R, H, LL)) : wpY_restrict post (L, V, RO, F, GO, GR, GQ, O, R, H, LL) p q t w := by
  unfold wpY_restrict wY_restrict_21
  exact cs_yref_ok hu hs (br_t rfl (cs_yref_s hu ht (br_f (by decide) h)))
theorem cs_yrs_r (hu : vp_in p 2) (hs : vp_in q 8) (ht : vp_in t 8) (hw : w < 0 ∨ ¬ w ≤ 15) (h : post (-5) (L, V, RO, F, GO, GR, GQ, O, R, H, LL)) : wpY_restrict post (L, V, RO, F, GO, GR, GQ, O, R, H, LL) p q t w := by
  unfold wpY_restrict wY_restrict_21
  exact cs_yref_ok hu hs (br_t rfl (cs_yref_ok hu ht (br_t (by decide) (br_c (fun _ => h) (fun n => br_f (hw.resolve_left n) h)))))
theorem cs_yrs_bad (hu : vp_in p 2) (hs : vp_in q 8) (ht : vp_in t 8) (hw0 : ¬ w < 0) (hw : w ≤ 15) (hO : vp_in (O (p * 8 + q).toNatClampNeg) 8) (hv : ¬ cs_gen L RO F GO GR GQ O R (p * 8 + q).toNatClampNeg) (h : post (-3) (L, V, RO, F, GO, GR, GQ, O, R, upd H p.toNatClampNeg (vp_nar .boolean 1), upd LL p.toNatClampNeg (-3))) : wpY_restrict post (L, V, RO, F, GO, GR, GQ, O, R, H, LL) p q t w := by
  unfold wpY_restrict wY_restrict_21
  exact cs_yref_ok hu hs (br_t rfl (cs_yref_ok hu ht (br_t (by decide) (br_f hw0 (br_t hw (cs_ygen hu hs hO (fun z => absurd z hv) (fun _ => br_t rfl (cs_yans hu h))))))))
theorem cs_yrs_ok (hu : vp_in p 2) (hs : vp_in q 8) (ht : vp_in t 8) (hw0 : ¬ w < 0) (hw : w ≤ 15) (hO : vp_in (O (p * 8 + q).toNatClampNeg) 8) (hv : cs_gen L RO F GO GR GQ O R (p * 8 + q).toNatClampNeg) (h : post (R (p * 8 + q).toNatClampNeg &&& w) (L, V, RO, upd F (p * 8 + t).toNatClampNeg (vp_nar .boolean 1), upd GO (p * 8 + t).toNatClampNeg (O (p * 8 + q).toNatClampNeg), upd GR (p * 8 + t).toNatClampNeg (R (p * 8 + q).toNatClampNeg &&& w), upd GQ (p * 8 + t).toNatClampNeg (RO (O (p * 8 + q).toNatClampNeg).toNatClampNeg), upd O (p * 8 + t).toNatClampNeg (O (p * 8 + q).toNatClampNeg), upd R (p * 8 + t).toNatClampNeg (R (p * 8 + q).toNatClampNeg &&& w), upd H p.toNatClampNeg (vp_nar .boolean 1), upd LL p.toNatClampNeg (R (p * 8 + q).toNatClampNeg &&& w))) : wpY_restrict post (L, V, RO, F, GO, GR, GQ, O, R, H, LL) p q t w := by
  have ha : vp_in (p * 8 + q) 16 := cs_in_at hu hs
  unfold wpY_restrict wY_restrict_21
  exact cs_yref_ok hu hs (br_t rfl (cs_yref_ok hu ht (br_t (by decide) (br_f hw0 (br_t hw (cs_ygen hu hs hO (fun _ => br_f cs_n1 (nm_e ⟨ha, nm_e ⟨ha, cs_ygive rfl (cs_in_at hu ht) hO (cs_yans hu h)⟩⟩)) (fun z => absurd hv z)))))))
end
end
section
/-! X's methods without requests, and restrict -/
section
variable {post : Int32 → SX → Prop} {qost : Int32 → Prop} {rost : SX → Prop} {p q t r w : Int32} {fm src : Int32} {L V S LN H LA F O R C SN SO SS ST SA : Nat → Int32} {fm2 src2 : Int32} {L2 V2 S2 LN2 H2 LA2 F2 O2 R2 C2 SN2 SO2 SS2 ST2 SA2 : Nat → Int32}
theorem cs_xcopy_u (hu : ¬ vp_in p 2) (h : post (-1) (fm, src, L, V, S, LN, H, LA, F, O, R, C, SN, SO, SS, ST, SA)) : wpX_copy post (fm, src, L, V, S, LN, H, LA, F, O, R, C, SN, SO, SS, ST, SA) p q t := by
  unfold wpX_copy
  exact cs_xbu1 hu (br_f cs_n1 h)
theorem cs_xcopy_s (hu : vp_in p 2) (hs : ¬ vp_in q 8) (h : post (-2) (fm, src, L, V, S, LN, H, LA, F, O, R, C, SN, SO, SS, ST, SA)) : wpX_copy post (fm, src, L, V, S, LN, H, LA, F, O, R, C, SN, SO, SS, ST, SA) p q t := by
  unfold wpX_copy
  exact cs_xbu0 hu (br_t rfl (cs_xbs1 hs (br_f cs_n1 h)))
theorem cs_xtamper_u (hu : ¬ vp_in p 2) (h : post (-1) (fm, src, L, V, S, LN, H, LA, F, O, R, C, SN, SO, SS, ST, SA)) : wpX_tamper post (fm, src, L, V, S, LN, H, LA, F, O, R, C, SN, SO, SS, ST, SA) p q t := by
  unfold wpX_tamper
  exact cs_xbu1 hu (br_f cs_n1 h)
theorem cs_xtamper_s (hu : vp_in p 2) (hs : ¬ vp_in q 8) (h : post (-2) (fm, src, L, V, S, LN, H, LA, F, O, R, C, SN, SO, SS, ST, SA)) : wpX_tamper post (fm, src, L, V, S, LN, H, LA, F, O, R, C, SN, SO, SS, ST, SA) p q t := by
  unfold wpX_tamper
  exact cs_xbu0 hu (br_t rfl (cs_xbs1 hs (br_f cs_n1 h)))
theorem cs_xclear_u (hu : ¬ vp_in p 2) (h : post (-1) (fm, src, L, V, S, LN, H, LA, F, O, R, C, SN, SO, SS, ST, SA)) : wpX_clear post (fm, src, L, V, S, LN, H, LA, F, O, R, C, SN, SO, SS, ST, SA) p q := by
  unfold wpX_clear
  exact cs_xbu1 hu (br_f cs_n1 h)
theorem cs_xclear_s (hu : vp_in p 2) (hs : ¬ vp_in q 8) (h : post (-2) (fm, src, L, V, S, LN, H, LA, F, O, R, C, SN, SO, SS, ST, SA)) : wpX_clear post (fm, src, L, V, S, LN, H, LA, F, O, R, C, SN, SO, SS, ST, SA) p q := by
  unfold wpX_clear
  exact cs_xbu0 hu (br_t rfl (cs_xbs1 hs (br_f cs_n1 h)))
theorem cs_xrestrict_u (hu : ¬ vp_in p 2) (h : post (-1) (fm, src, L, V, S, LN, H, LA, F, O, R, C, SN, SO, SS, ST, SA)) : wpX_restrict post (fm, src, L, V, S, LN, H, LA, F, O, R, C, SN, SO, SS, ST, SA) p q t w := by
  unfold wpX_restrict
  exact cs_xbu1 hu (br_f cs_n1 h)
theorem cs_xrestrict_s (hu : vp_in p 2) (hs : ¬ vp_in q 8) (h : post (-2) (fm, src, L, V, S, LN, H, LA, F, O, R, C, SN, SO, SS, ST, SA)) : wpX_restrict post (fm, src, L, V, S, LN, H, LA, F, O, R, C, SN, SO, SS, ST, SA) p q t w := by
  unfold wpX_restrict
  exact cs_xbu0 hu (br_t rfl (cs_xbs1 hs (br_f cs_n1 h)))
theorem cs_xrs_t (hu : vp_in p 2) (hs : vp_in q 8) (ht : ¬ vp_in t 8) (h : post (-2) (fm, src, L, V, S, LN, H, LA, F, O, R, C, SN, SO, SS, ST, SA)) : wpX_restrict post (fm, src, L, V, S, LN, H, LA, F, O, R, C, SN, SO, SS, ST, SA) p q t w := by
  unfold wpX_restrict
  exact cs_xbu0 hu (br_t rfl (cs_xbs0 hs (br_t rfl (cs_xbs1 ht (br_f cs_n1 h)))))
theorem cs_xrs_r (hu : vp_in p 2) (hs : vp_in q 8) (ht : vp_in t 8) (hw : w < 0 ∨ ¬ w ≤ 15) (h : post (-5) (fm, src, L, V, S, LN, H, LA, F, O, R, C, SN, SO, SS, ST, SA)) : wpX_restrict post (fm, src, L, V, S, LN, H, LA, F, O, R, C, SN, SO, SS, ST, SA) p q t w := by
  unfold wpX_restrict
  exact cs_xbu0 hu (br_t rfl (cs_xbs0 hs (br_t rfl (cs_xbs0 ht (br_t rfl (br_c (fun _ => h) (fun n => br_f (hw.resolve_left n) h)))))))
theorem cs_xrs_ok (hu : vp_in p 2) (hs : vp_in q 8) (ht : vp_in t 8) (hw0 : ¬ w < 0) (hw : w ≤ 15) (hlt : SN p.toNatClampNeg < SN p.toNatClampNeg + 1) (h : ∀ post' : Int32 → SX → Prop, post' r (fm2, src2, L2, V2, S2, LN2, H2, LA2, F2, O2, R2, C2, SN2, SO2, SS2, ST2, SA2) → wpX_serve post' (fm, src, L, V, S, upd SN p.toNatClampNeg (SN p.toNatClampNeg + 1), upd H p.toNatClampNeg (vp_nar .boolean 1), LA, F, O, R, C, upd SN p.toNatClampNeg (SN p.toNatClampNeg + 1), upd SO p.toNatClampNeg 5, upd SS p.toNatClampNeg (p * 8 + q), upd ST p.toNatClampNeg (p * 8 + t), upd SA p.toNatClampNeg w) 5 (p * 8 + q) (p * 8 + t) w) (hp : post r (fm2, src2, L2, V2, S2, LN2, H2, upd LA2 p.toNatClampNeg r, F2, O2, R2, C2, SN2, SO2, SS2, ST2, SA2)) : wpX_restrict post (fm, src, L, V, S, SN, H, LA, F, O, R, C, SN, SO, SS, ST, SA) p q t w := by
  unfold wpX_restrict
  exact cs_xbu0 hu (br_t rfl (cs_xbs0 hs (br_t rfl (cs_xbs0 ht (br_t rfl (br_f hw0 (br_t hw (cs_xreq hu hlt h hp))))))))
theorem cs_xag_u (hu : ¬ vp_in p 2) (h : post (-1) (fm, src, L, V, S, LN, H, LA, F, O, R, C, SN, SO, SS, ST, SA)) : wpX_again post (fm, src, L, V, S, LN, H, LA, F, O, R, C, SN, SO, SS, ST, SA) p := by
  unfold wpX_again
  exact cs_xbu1 hu (br_f cs_n1 h)
theorem cs_xag_0 (hu : vp_in p 2) (hz : SN p.toNatClampNeg = 0) (h : post (-6) (fm, src, L, V, S, LN, H, LA, F, O, R, C, SN, SO, SS, ST, SA)) : wpX_again post (fm, src, L, V, S, LN, H, LA, F, O, R, C, SN, SO, SS, ST, SA) p := by
  unfold wpX_again
  exact cs_xbu0 hu (br_t rfl ⟨hu, br_t hz h⟩)
theorem cs_xag_1 (hu : vp_in p 2) (hz : ¬ SN p.toNatClampNeg = 0) (hH : H p.toNatClampNeg = 0) (h : post (-6) (fm, src, L, V, S, SN, H, LA, F, O, R, C, SN, SO, SS, ST, SA)) : wpX_again post (fm, src, L, V, S, SN, H, LA, F, O, R, C, SN, SO, SS, ST, SA) p := by
  unfold wpX_again wpX_receive
  exact cs_xbu0 hu (br_t rfl ⟨hu, br_f hz ⟨hu, hu, br_f Int32.lt_irrefl ⟨hu, br_t hH h⟩⟩⟩)
theorem cs_xag_2 (hu : vp_in p 2) (hz : ¬ SN p.toNatClampNeg = 0) (hH : ¬ H p.toNatClampNeg = 0) (h : post (LA p.toNatClampNeg) (fm, src, L, V, S, SN, H, LA, F, O, R, C, SN, SO, SS, ST, SA)) : wpX_again post (fm, src, L, V, S, SN, H, LA, F, O, R, C, SN, SO, SS, ST, SA) p := by
  unfold wpX_again wpX_receive
  exact cs_xbu0 hu (br_t rfl ⟨hu, br_f hz ⟨hu, hu, br_f Int32.lt_irrefl ⟨hu, br_f hH ⟨hu, h⟩⟩⟩⟩)
theorem cs_xcopy_ok (hu : vp_in p 2) (hs : vp_in q 8) (h : post 0 (fm, src, L, V, S, LN, H, LA, upd F (t &&& 15).toNatClampNeg (vp_nar .boolean (F (p * 8 + q).toNatClampNeg)), upd O (t &&& 15).toNatClampNeg (O (p * 8 + q).toNatClampNeg), upd R (t &&& 15).toNatClampNeg (R (p * 8 + q).toNatClampNeg), upd C (t &&& 15).toNatClampNeg (C (p * 8 + q).toNatClampNeg), SN, SO, SS, ST, SA)) : wpX_copy post (fm, src, L, V, S, LN, H, LA, F, O, R, C, SN, SO, SS, ST, SA) p q t := by
  have ha : vp_in (p * 8 + q) 16 := cs_in_at hu hs
  have ht : vp_in (t &&& 15) 16 := pk_andIn t 4 (by decide) (by omega)
  unfold wpX_copy
  exact cs_xbu0 hu (br_t rfl (cs_xbs0 hs (br_t rfl (nm_e (nm_e ⟨ha, ht, nm_e ⟨ha, ht, nm_e ⟨ha, ht, nm_e ⟨ha, ht, nm_e h⟩⟩⟩⟩)))))
theorem cs_xtamper_0 (hu : vp_in p 2) (hs : vp_in q 8) (hF : F (p * 8 + q).toNatClampNeg = 0) (h : post (-3) (fm, src, L, V, S, LN, H, LA, F, O, R, C, SN, SO, SS, ST, SA)) : wpX_tamper post (fm, src, L, V, S, LN, H, LA, F, O, R, C, SN, SO, SS, ST, SA) p q t := by
  unfold wpX_tamper
  exact cs_xbu0 hu (br_t rfl (cs_xbs0 hs (br_t rfl (nm_e ⟨cs_in_at hu hs, br_t hF h⟩))))
theorem cs_xtamper_1 (hu : vp_in p 2) (hs : vp_in q 8) (hF : ¬ F (p * 8 + q).toNatClampNeg = 0) (h : post 0 (fm, src, L, V, S, LN, H, LA, F, upd O (p * 8 + q).toNatClampNeg (O (p * 8 + q).toNatClampNeg ^^^ ((t >>> ((4 : Int32) &&& 31)) &&& 7)), upd R (p * 8 + q).toNatClampNeg (R (p * 8 + q).toNatClampNeg ^^^ (t &&& 15)), C, SN, SO, SS, ST, SA)) : wpX_tamper post (fm, src, L, V, S, LN, H, LA, F, O, R, C, SN, SO, SS, ST, SA) p q t := by
  have ha : vp_in (p * 8 + q) 16 := cs_in_at hu hs
  unfold wpX_tamper
  exact cs_xbu0 hu (br_t rfl (cs_xbs0 hs (br_t rfl (nm_e ⟨ha, br_f hF ⟨ha, ha, nm_e ⟨ha, ha, nm_e h⟩⟩⟩))))
theorem cs_xclear_0 (hu : vp_in p 2) (hs : vp_in q 8) (hF : F (p * 8 + q).toNatClampNeg = 0) (h : post 0 (fm, src, L, V, S, LN, H, LA, upd F (p * 8 + q).toNatClampNeg (vp_nar .boolean 0), O, R, C, SN, SO, SS, ST, SA)) : wpX_clear post (fm, src, L, V, S, LN, H, LA, F, O, R, C, SN, SO, SS, ST, SA) p q := by
  have ha : vp_in (p * 8 + q) 16 := cs_in_at hu hs
  unfold wpX_clear wX_clear_40
  exact cs_xbu0 hu (br_t rfl (cs_xbs0 hs (br_t rfl (nm_e ⟨ha, br_t hF ⟨ha, nm_e h⟩⟩))))
theorem cs_xclear_1 (hu : vp_in p 2) (hs : vp_in q 8) (hF : ¬ F (p * 8 + q).toNatClampNeg = 0) (h : post 1 (fm, src, L, V, S, LN, H, LA, upd F (p * 8 + q).toNatClampNeg (vp_nar .boolean 0), O, R, C, SN, SO, SS, ST, SA)) : wpX_clear post (fm, src, L, V, S, LN, H, LA, F, O, R, C, SN, SO, SS, ST, SA) p q := by
  have ha : vp_in (p * 8 + q) 16 := cs_in_at hu hs
  unfold wpX_clear wX_clear_40
  exact cs_xbu0 hu (br_t rfl (cs_xbs0 hs (br_t rfl (nm_e ⟨ha, br_f hF ⟨ha, nm_e h⟩⟩))))
theorem cs_xrestart (h : rost (fm, src, L, V, S, LN, upd (upd H 0 (vp_nar .boolean 0)) 1 (vp_nar .boolean 0), upd (upd LA 0 0) 1 0, F, O, R, C, SN, SO, SS, ST, SA)) : wpX_restart rost (fm, src, L, V, S, LN, H, LA, F, O, R, C, SN, SO, SS, ST, SA) := by
  have h0 : vp_in 0 2 := vp_in_nI (n := 0) (by omega) (by omega)
  have h1 : vp_in 1 2 := vp_in_nI (n := 1) (by omega) (by omega)
  unfold wpX_restart
  refine ⟨3, br_f (by decide) ⟨h0, nm_r (e' := upd H 0 (vp_nar .boolean 0)) rfl ⟨h0, nm_r (e' := upd LA 0 0) rfl (nm_r (e' := 1) (by decide) ?_)⟩⟩⟩
  refine br_f (by decide) ⟨h1, nm_r (e' := upd (upd H 0 (vp_nar .boolean 0)) 1 (vp_nar .boolean 0)) rfl ⟨h1, nm_r (e' := upd (upd LA 0 0) 1 0) rfl (nm_r (e' := 2) (by decide) ?_)⟩⟩
  exact br_t (by decide) h
theorem cs_xrights_u (hu : ¬ vp_in p 2) (h : qost (-1)) : wpX_rights qost (fm, src, L, V, S, LN, H, LA, F, O, R, C, SN, SO, SS, ST, SA) p q := by
  unfold wpX_rights
  exact cs_xbu1 hu (br_f cs_n1 h)
theorem cs_xrights_s (hu : vp_in p 2) (hs : ¬ vp_in q 8) (h : qost (-2)) : wpX_rights qost (fm, src, L, V, S, LN, H, LA, F, O, R, C, SN, SO, SS, ST, SA) p q := by
  unfold wpX_rights
  exact cs_xbu0 hu (br_t rfl (cs_xbs1 hs (br_f cs_n1 h)))
theorem cs_xrights_0 (hu : vp_in p 2) (hs : vp_in q 8) (hF : F (p * 8 + q).toNatClampNeg = 0) (h : qost 0) : wpX_rights qost (fm, src, L, V, S, LN, H, LA, F, O, R, C, SN, SO, SS, ST, SA) p q := by
  unfold wpX_rights
  exact cs_xbu0 hu (br_t rfl (cs_xbs0 hs (br_t rfl (nm_e ⟨cs_in_at hu hs, br_t hF h⟩))))
theorem cs_xrights_1 (hu : vp_in p 2) (hs : vp_in q 8) (hF : ¬ F (p * 8 + q).toNatClampNeg = 0) (h : qost (R (p * 8 + q).toNatClampNeg)) : wpX_rights qost (fm, src, L, V, S, LN, H, LA, F, O, R, C, SN, SO, SS, ST, SA) p q := by
  unfold wpX_rights
  exact cs_xbu0 hu (br_t rfl (cs_xbs0 hs (br_t rfl (nm_e ⟨cs_in_at hu hs, br_f hF ⟨cs_in_at hu hs, h⟩⟩))))
theorem cs_xgenuine_u (hu : ¬ vp_in p 2) (h : qost 0) : wpX_genuine qost (fm, src, L, V, S, LN, H, LA, F, O, R, C, SN, SO, SS, ST, SA) p q := by
  unfold wpX_genuine
  exact cs_xbu1 hu (br_f cs_n1 h)
theorem cs_xgenuine_s (hu : vp_in p 2) (hs : ¬ vp_in q 8) (h : qost 0) : wpX_genuine qost (fm, src, L, V, S, LN, H, LA, F, O, R, C, SN, SO, SS, ST, SA) p q := by
  unfold wpX_genuine
  exact cs_xbu0 hu (br_t rfl (cs_xbs1 hs (br_f cs_n1 h)))
theorem cs_xgenuine_ok (hu : vp_in p 2) (hs : vp_in q 8) (hO : vp_in (O (p * 8 + q).toNatClampNeg) 8) (h1 : cs_val L S F O R C (p * 8 + q).toNatClampNeg → qost 1) (h0 : ¬ cs_val L S F O R C (p * 8 + q).toNatClampNeg → qost 0) : wpX_genuine qost (fm, src, L, V, S, LN, H, LA, F, O, R, C, SN, SO, SS, ST, SA) p q := by
  unfold wpX_genuine
  exact cs_xbu0 hu (br_t rfl (cs_xbs0 hs (br_t rfl (cs_xvalid (cs_in_at hu hs) hO (fun v => ⟨rfl, h1 v⟩) (fun v => ⟨rfl, h0 v⟩)))))
end
/-! alive: in lockstep -/
section
variable (fm src : Int32) (V S LN H LA F O R C SN SO SS ST SA V2 RO F2 GO GR GQ O2 R2 H2 LL : Nat → Int32)
theorem cs_alive (L : Nat → Int32) : ∀ d j (c : Int32), j + d = 8 → ∃ r : Int32, (∀ qost : Int32 → Prop, qost r → wX_alive_4 qost fm src L V S LN H LA F O R C SN SO SS ST SA (d + 1) c (nI j)) ∧ (∀ qost : Int32 → Prop, qost r → wY_alive_4 qost L V2 RO F2 GO GR GQ O2 R2 H2 LL (d + 1) c (nI j)) := by
  intro d
  induction d with
  | zero =>
    intro j c hj
    have h : (8 : Int32) ≤ nI j := nI_le (a := 8) (by omega) (by omega)
    exact ⟨c, fun _ hp => br_t h hp, fun _ hp => br_t h hp⟩
  | succ d ih =>
    intro j c hj
    have h : ¬ (8 : Int32) ≤ nI j := nI_ge (b := 8) (by omega) (by omega)
    have hi : vp_in (nI j) 8 := vp_in_nI (by omega) (by omega)
    by_cases z : L (nI j).toNatClampNeg = 0
    · obtain ⟨r, hX, hY⟩ := ih (j + 1) c (by omega)
      exact ⟨r, fun qost hp => br_f h ⟨hi, br_t z (nm_r (nI_1 j) (hX qost hp))⟩, fun qost hp => br_f h ⟨hi, br_t z (nm_r (nI_1 j) (hY qost hp))⟩⟩
    · obtain ⟨r, hX, hY⟩ := ih (j + 1) (c + 1) (by omega)
      exact ⟨r, fun qost hp => br_f h ⟨hi, br_f z (nm_e (nm_r (nI_1 j) (hX qost hp)))⟩, fun qost hp => br_f h ⟨hi, br_f z (nm_e (nm_r (nI_1 j) (hY qost hp)))⟩⟩
end
end
section
/-! the owed statements -/
theorem i_vc_create {k : Nat} {u : SX} {v : SY} (I : i_Rel k u v) (hk : k + 5 ≤ 2561) (v1 : Int32) (v2 : Int32) : wpX_create (fun r u' => wpY_create (fun r' v' => r' = r ∧ i_Rel (k + 5) u' v') v v1 v2) u v1 v2 := by
  refine cs_el (P := fun u v => wpX_create (fun r u' => wpY_create (fun r' v' => r' = r ∧ i_Rel (k + 5) u' v') v v1 v2) u v1 v2) ?_ I
  intro m src L V S H LA F O R C SN SO SS ST SA RO GO GR GQ LL hm hA hB
  show wpX_create _ _ _ _
  have hup : i_Rel (k + 5) (nI m, src, L, V, S, SN, H, LA, F, O, R, C, SN, SO, SS, ST, SA) (L, V, RO, F, GO, GR, GQ, O, R, H, LL) := cs_in (by omega) (cs_A_up hA) hB
  have hO : ∀ i, vp_in (O i) 8 := hB.1
  unfold wpX_create
  by_cases hu : vp_in v1 2
  · by_cases hs : vp_in v2 8
    · have ha : vp_in (v1 * 8 + v2) 16 := cs_in_at hu hs
      have hlt := cs_A_lt hA hk v1.toNatClampNeg
      obtain ⟨e, he, hl, hd⟩ := cs_first L 8
      by_cases e8 : e = 8
      · subst e8
        refine cs_xsl_ok hu hs hlt (fun post' hp => cs_xs0 (cs_xc_full hl hp)) ?_
        refine cs_yc_full hu hs hl ⟨rfl, ?_⟩
        exact cs_in (by omega) (cs_A_req hA hk _ _ rfl) hB
      · have hd' : L e = 0 := hd.resolve_left e8
        have h8 : e < 8 := by omega
        refine cs_xsl_ok hu hs hlt (fun post' hp => cs_xs0 (cs_xc_at h8 hl hd' ha hp)) ?_
        refine cs_yc_at hu hs h8 hl hd' ⟨rfl, ?_⟩
        exact cs_in (m := m + 1) (by omega) (cs_A_req hA hk _ _ rfl) (cs_B_fresh hB (by omega) (vp_in_nI h8 (by omega)) cs_lo15 (fun x hx h => by rw [pk_un hx] at h; exact h) _ _)
    · exact cs_xsl_s hu hs (cs_ycreate_s hu hs ⟨rfl, hup⟩)
  · exact cs_xsl_u hu (cs_ycreate_u hu ⟨rfl, hup⟩)
theorem i_vc_read {k : Nat} {u : SX} {v : SY} (I : i_Rel k u v) (hk : k + 5 ≤ 2561) (v1 : Int32) (v2 : Int32) : wpX_read (fun r u' => wpY_read (fun r' v' => r' = r ∧ i_Rel (k + 5) u' v') v v1 v2) u v1 v2 := by
  refine cs_el (P := fun u v => wpX_read (fun r u' => wpY_read (fun r' v' => r' = r ∧ i_Rel (k + 5) u' v') v v1 v2) u v1 v2) ?_ I
  intro m src L V S H LA F O R C SN SO SS ST SA RO GO GR GQ LL hm hA hB
  show wpX_read _ _ _ _
  have hup : i_Rel (k + 5) (nI m, src, L, V, S, SN, H, LA, F, O, R, C, SN, SO, SS, ST, SA) (L, V, RO, F, GO, GR, GQ, O, R, H, LL) := cs_in (by omega) (cs_A_up hA) hB
  have hO : ∀ i, vp_in (O i) 8 := hB.1
  unfold wpX_read
  by_cases hu : vp_in v1 2
  · by_cases hs : vp_in v2 8
    · have ha : vp_in (v1 * 8 + v2) 16 := cs_in_at hu hs
      have hlt := cs_A_lt hA hk v1.toNatClampNeg
      by_cases hv : cs_val L S F O R C (v1 * 8 + v2).toNatClampNeg ∧ R (v1 * 8 + v2).toNatClampNeg &&& 1 = 1
      · have hg : cs_gen L RO F GO GR GQ O R (v1 * 8 + v2).toNatClampNeg ∧ R (v1 * 8 + v2).toNatClampNeg &&& 1 = 1 := ⟨(cs_vg hB _).mp hv.1, hv.2⟩
        refine cs_xsl_ok hu hs hlt (fun post' hp => cs_xs1 ha (hO _) hv.1 hv.2 hp) ?_
        refine cs_yread_ok hu hs (hO _) hg ⟨rfl, ?_⟩
        exact cs_in (by omega) (cs_A_req hA hk _ _ rfl) hB
      · have hg : ¬ (cs_gen L RO F GO GR GQ O R (v1 * 8 + v2).toNatClampNeg ∧ R (v1 * 8 + v2).toNatClampNeg &&& 1 = 1) := fun z => hv ⟨(cs_vg hB _).mpr z.1, z.2⟩
        refine cs_xsl_ok hu hs hlt (fun post' hp => cs_xs_bad (n := 1) (by decide) (fun _ => cs_need1) ha (hO _) rfl hv hp) ?_
        refine cs_yread_bad hu hs (hO _) hg ⟨rfl, ?_⟩
        exact cs_in (by omega) (cs_A_req hA hk _ _ rfl) hB
    · exact cs_xsl_s hu hs (cs_yread_s hu hs ⟨rfl, hup⟩)
  · exact cs_xsl_u hu (cs_yread_u hu ⟨rfl, hup⟩)
theorem i_vc_add {k : Nat} {u : SX} {v : SY} (I : i_Rel k u v) (hk : k + 5 ≤ 2561) (v1 : Int32) (v2 : Int32) (v3 : Int32) : wpX_add (fun r u' => wpY_add (fun r' v' => r' = r ∧ i_Rel (k + 5) u' v') v v1 v2 v3) u v1 v2 v3 := by
  refine cs_el (P := fun u v => wpX_add (fun r u' => wpY_add (fun r' v' => r' = r ∧ i_Rel (k + 5) u' v') v v1 v2 v3) u v1 v2 v3) ?_ I
  intro m src L V S H LA F O R C SN SO SS ST SA RO GO GR GQ LL hm hA hB
  show wpX_add _ _ _ _ _
  have hup : i_Rel (k + 5) (nI m, src, L, V, S, SN, H, LA, F, O, R, C, SN, SO, SS, ST, SA) (L, V, RO, F, GO, GR, GQ, O, R, H, LL) := cs_in (by omega) (cs_A_up hA) hB
  have hO : ∀ i, vp_in (O i) 8 := hB.1
  unfold wpX_add
  by_cases hu : vp_in v1 2
  · by_cases hs : vp_in v2 8
    · have ha : vp_in (v1 * 8 + v2) 16 := cs_in_at hu hs
      have hlt := cs_A_lt hA hk v1.toNatClampNeg
      by_cases hv : cs_val L S F O R C (v1 * 8 + v2).toNatClampNeg ∧ R (v1 * 8 + v2).toNatClampNeg &&& 2 = 2
      · have hg : cs_gen L RO F GO GR GQ O R (v1 * 8 + v2).toNatClampNeg ∧ R (v1 * 8 + v2).toNatClampNeg &&& 2 = 2 := ⟨(cs_vg hB _).mp hv.1, hv.2⟩
        refine cs_xsl_ok hu hs hlt (fun post' hp => cs_xs2 ha (hO _) hv.1 hv.2 hp) ?_
        refine cs_yadd_ok hu hs (hO _) hg ⟨rfl, ?_⟩
        exact cs_in (by omega) (cs_A_req hA hk _ _ rfl) hB
      · have hg : ¬ (cs_gen L RO F GO GR GQ O R (v1 * 8 + v2).toNatClampNeg ∧ R (v1 * 8 + v2).toNatClampNeg &&& 2 = 2) := fun z => hv ⟨(cs_vg hB _).mpr z.1, z.2⟩
        refine cs_xsl_ok hu hs hlt (fun post' hp => cs_xs_bad (n := 2) (by decide) (fun _ => cs_need2) ha (hO _) rfl hv hp) ?_
        refine cs_yadd_bad hu hs (hO _) hg ⟨rfl, ?_⟩
        exact cs_in (by omega) (cs_A_req hA hk _ _ rfl) hB
    · exact cs_xsl_s hu hs (cs_yadd_s hu hs ⟨rfl, hup⟩)
  · exact cs_xsl_u hu (cs_yadd_u hu ⟨rfl, hup⟩)
theorem i_vc_destroy {k : Nat} {u : SX} {v : SY} (I : i_Rel k u v) (hk : k + 5 ≤ 2561) (v1 : Int32) (v2 : Int32) : wpX_destroy (fun r u' => wpY_destroy (fun r' v' => r' = r ∧ i_Rel (k + 5) u' v') v v1 v2) u v1 v2 := by
  refine cs_el (P := fun u v => wpX_destroy (fun r u' => wpY_destroy (fun r' v' => r' = r ∧ i_Rel (k + 5) u' v') v v1 v2) u v1 v2) ?_ I
  intro m src L V S H LA F O R C SN SO SS ST SA RO GO GR GQ LL hm hA hB
  show wpX_destroy _ _ _ _
  have hup : i_Rel (k + 5) (nI m, src, L, V, S, SN, H, LA, F, O, R, C, SN, SO, SS, ST, SA) (L, V, RO, F, GO, GR, GQ, O, R, H, LL) := cs_in (by omega) (cs_A_up hA) hB
  have hO : ∀ i, vp_in (O i) 8 := hB.1
  unfold wpX_destroy
  by_cases hu : vp_in v1 2
  · by_cases hs : vp_in v2 8
    · have ha : vp_in (v1 * 8 + v2) 16 := cs_in_at hu hs
      have hlt := cs_A_lt hA hk v1.toNatClampNeg
      by_cases hv : cs_val L S F O R C (v1 * 8 + v2).toNatClampNeg ∧ R (v1 * 8 + v2).toNatClampNeg &&& 4 = 4
      · have hg : cs_gen L RO F GO GR GQ O R (v1 * 8 + v2).toNatClampNeg ∧ R (v1 * 8 + v2).toNatClampNeg &&& 4 = 4 := ⟨(cs_vg hB _).mp hv.1, hv.2⟩
        refine cs_xsl_ok hu hs hlt (fun post' hp => cs_xs3 ha (hO _) hv.1 hv.2 hp) ?_
        refine cs_ydestroy_ok hu hs (hO _) hg ⟨rfl, ?_⟩
        exact cs_in (by omega) (cs_A_req hA hk _ _ rfl) (cs_B_kill hB (cs_upd0 L _))
      · have hg : ¬ (cs_gen L RO F GO GR GQ O R (v1 * 8 + v2).toNatClampNeg ∧ R (v1 * 8 + v2).toNatClampNeg &&& 4 = 4) := fun z => hv ⟨(cs_vg hB _).mpr z.1, z.2⟩
        refine cs_xsl_ok hu hs hlt (fun post' hp => cs_xs_bad (n := 4) (by decide) (fun _ => cs_need3) ha (hO _) rfl hv hp) ?_
        refine cs_ydestroy_bad hu hs (hO _) hg ⟨rfl, ?_⟩
        exact cs_in (by omega) (cs_A_req hA hk _ _ rfl) hB
    · exact cs_xsl_s hu hs (cs_ydestroy_s hu hs ⟨rfl, hup⟩)
  · exact cs_xsl_u hu (cs_ydestroy_u hu ⟨rfl, hup⟩)
theorem i_vc_revoke {k : Nat} {u : SX} {v : SY} (I : i_Rel k u v) (hk : k + 5 ≤ 2561) (v1 : Int32) (v2 : Int32) : wpX_revoke (fun r u' => wpY_revoke (fun r' v' => r' = r ∧ i_Rel (k + 5) u' v') v v1 v2) u v1 v2 := by
  refine cs_el (P := fun u v => wpX_revoke (fun r u' => wpY_revoke (fun r' v' => r' = r ∧ i_Rel (k + 5) u' v') v v1 v2) u v1 v2) ?_ I
  intro m src L V S H LA F O R C SN SO SS ST SA RO GO GR GQ LL hm hA hB
  show wpX_revoke _ _ _ _
  have hup : i_Rel (k + 5) (nI m, src, L, V, S, SN, H, LA, F, O, R, C, SN, SO, SS, ST, SA) (L, V, RO, F, GO, GR, GQ, O, R, H, LL) := cs_in (by omega) (cs_A_up hA) hB
  have hO : ∀ i, vp_in (O i) 8 := hB.1
  unfold wpX_revoke
  by_cases hu : vp_in v1 2
  · by_cases hs : vp_in v2 8
    · have ha : vp_in (v1 * 8 + v2) 16 := cs_in_at hu hs
      have hlt := cs_A_lt hA hk v1.toNatClampNeg
      by_cases hv : cs_val L S F O R C (v1 * 8 + v2).toNatClampNeg ∧ R (v1 * 8 + v2).toNatClampNeg &&& 8 = 8
      · have hg : cs_gen L RO F GO GR GQ O R (v1 * 8 + v2).toNatClampNeg ∧ R (v1 * 8 + v2).toNatClampNeg &&& 8 = 8 := ⟨(cs_vg hB _).mp hv.1, hv.2⟩
        refine cs_xsl_ok hu hs hlt (fun post' hp => cs_xs4 ha (hO _) hv.1 hv.2 hp) ?_
        refine cs_yrevoke_ok hu hs (hO _) hg ⟨rfl, ?_⟩
        exact cs_in (m := m + 1) (by omega) (cs_A_req hA hk _ _ rfl) (cs_B_fresh hB (by omega) (hO _) (hB.2.1 _) (fun x _ h => h) _ _)
      · have hg : ¬ (cs_gen L RO F GO GR GQ O R (v1 * 8 + v2).toNatClampNeg ∧ R (v1 * 8 + v2).toNatClampNeg &&& 8 = 8) := fun z => hv ⟨(cs_vg hB _).mpr z.1, z.2⟩
        refine cs_xsl_ok hu hs hlt (fun post' hp => cs_xs_bad (n := 8) (by decide) (fun _ => cs_need4) ha (hO _) rfl hv hp) ?_
        refine cs_yrevoke_bad hu hs (hO _) hg ⟨rfl, ?_⟩
        exact cs_in (by omega) (cs_A_req hA hk _ _ rfl) hB
    · exact cs_xsl_s hu hs (cs_yrevoke_s hu hs ⟨rfl, hup⟩)
  · exact cs_xsl_u hu (cs_yrevoke_u hu ⟨rfl, hup⟩)
theorem i_vc_restrict {k : Nat} {u : SX} {v : SY} (I : i_Rel k u v) (hk : k + 5 ≤ 2561) (v1 : Int32) (v2 : Int32) (v3 : Int32) (v4 : Int32) : wpX_restrict (fun r u' => wpY_restrict (fun r' v' => r' = r ∧ i_Rel (k + 5) u' v') v v1 v2 v3 v4) u v1 v2 v3 v4 := by
  refine cs_el (P := fun u v => wpX_restrict (fun r u' => wpY_restrict (fun r' v' => r' = r ∧ i_Rel (k + 5) u' v') v v1 v2 v3 v4) u v1 v2 v3 v4) ?_ I
  intro m src L V S H LA F O R C SN SO SS ST SA RO GO GR GQ LL hm hA hB
  show wpX_restrict _ _ _ _ _ _
  have hup : i_Rel (k + 5) (nI m, src, L, V, S, SN, H, LA, F, O, R, C, SN, SO, SS, ST, SA) (L, V, RO, F, GO, GR, GQ, O, R, H, LL) := cs_in (by omega) (cs_A_up hA) hB
  have hO : ∀ i, vp_in (O i) 8 := hB.1
  by_cases hu : vp_in v1 2
  · by_cases hs : vp_in v2 8
    · have ha : vp_in (v1 * 8 + v2) 16 := cs_in_at hu hs
      by_cases ht : vp_in v3 8
      · by_cases hw0 : v4 < 0
        · exact cs_xrs_r hu hs ht (Or.inl hw0) (cs_yrs_r hu hs ht (Or.inl hw0) ⟨rfl, hup⟩)
        · by_cases hw : v4 ≤ 15
          · have hlt := cs_A_lt hA hk v1.toNatClampNeg
            by_cases hv : cs_val L S F O R C (v1 * 8 + v2).toNatClampNeg
            · have hg : cs_gen L RO F GO GR GQ O R (v1 * 8 + v2).toNatClampNeg := (cs_vg hB _).mp hv
              refine cs_xrs_ok hu hs ht hw0 hw hlt (fun post' hp => cs_xs5 ha (cs_in_at hu ht) (hO _) hv hp) ?_
              refine cs_yrs_ok hu hs ht hw0 hw (hO _) hg ⟨pk_us.symm, ?_⟩
              exact cs_in (by omega) (cs_A_req hA hk _ _ pk_us.symm) (cs_B_put hB hg (cs_lo_and (hB.2.1 _) _) _ _)
            · have hg : ¬ cs_gen L RO F GO GR GQ O R (v1 * 8 + v2).toNatClampNeg := fun z => hv ((cs_vg hB _).mpr z)
              refine cs_xrs_ok hu hs ht hw0 hw hlt (fun post' hp => cs_xs_bad (n := 0) (by decide) (fun _ => cs_need5) ha (hO _) rfl (fun z => hv z.1) hp) ?_
              refine cs_yrs_bad hu hs ht hw0 hw (hO _) hg ⟨rfl, ?_⟩
              exact cs_in (by omega) (cs_A_req hA hk _ _ rfl) hB
          · exact cs_xrs_r hu hs ht (Or.inr hw) (cs_yrs_r hu hs ht (Or.inr hw) ⟨rfl, hup⟩)
      · exact cs_xrs_t hu hs ht (cs_yrs_t hu hs ht ⟨rfl, hup⟩)
    · exact cs_xrestrict_s hu hs (cs_yrs_s hu hs ⟨rfl, hup⟩)
  · exact cs_xrestrict_u hu (cs_yrs_u hu ⟨rfl, hup⟩)
theorem i_vc_again {k : Nat} {u : SX} {v : SY} (I : i_Rel k u v) (hk : k + 5 ≤ 2561) (v1 : Int32) : wpX_again (fun r u' => wpY_again (fun r' => r' = r ∧ i_Rel (k + 5) u' v) v v1) u v1 := by
  refine cs_el (P := fun u v => wpX_again (fun r u' => wpY_again (fun r' => r' = r ∧ i_Rel (k + 5) u' v) v v1) u v1) ?_ I
  intro m src L V S H LA F O R C SN SO SS ST SA RO GO GR GQ LL hm hA hB
  show wpX_again _ _ _
  have hup : i_Rel (k + 5) (nI m, src, L, V, S, SN, H, LA, F, O, R, C, SN, SO, SS, ST, SA) (L, V, RO, F, GO, GR, GQ, O, R, H, LL) := cs_in (by omega) (cs_A_up hA) hB
  have hO : ∀ i, vp_in (O i) 8 := hB.1
  by_cases hu : vp_in v1 2
  · by_cases hz : SN v1.toNatClampNeg = 0
    · exact cs_xag_0 hu hz (cs_yag_0 hu ((hA _).2.2.1 hz) ⟨rfl, hup⟩)
    · by_cases hH : H v1.toNatClampNeg = 0
      · exact cs_xag_1 hu hz hH (cs_yag_0 hu hH ⟨rfl, hup⟩)
      · exact cs_xag_2 hu hz hH (cs_yag_1 hu hH ⟨(hA _).2.2.2 hH, hup⟩)
  · exact cs_xag_u hu (cs_yag_u hu ⟨rfl, hup⟩)
theorem i_vc_copy {k : Nat} {u : SX} {v : SY} (I : i_Rel k u v) (hk : k + 5 ≤ 2561) (v1 : Int32) (v2 : Int32) (v3 : Int32) : wpX_copy (fun r u' => wpY_copy (fun r' v' => r' = r ∧ i_Rel (k + 5) u' v') v v1 v2 v3) u v1 v2 v3 := by
  refine cs_el (P := fun u v => wpX_copy (fun r u' => wpY_copy (fun r' v' => r' = r ∧ i_Rel (k + 5) u' v') v v1 v2 v3) u v1 v2 v3) ?_ I
  intro m src L V S H LA F O R C SN SO SS ST SA RO GO GR GQ LL hm hA hB
  show wpX_copy _ _ _ _ _
  have hup : i_Rel (k + 5) (nI m, src, L, V, S, SN, H, LA, F, O, R, C, SN, SO, SS, ST, SA) (L, V, RO, F, GO, GR, GQ, O, R, H, LL) := cs_in (by omega) (cs_A_up hA) hB
  have hO : ∀ i, vp_in (O i) 8 := hB.1
  by_cases hu : vp_in v1 2
  · by_cases hs : vp_in v2 8
    · have ha : vp_in (v1 * 8 + v2) 16 := cs_in_at hu hs
      exact cs_xcopy_ok hu hs (cs_ycopy_ok hu hs ⟨rfl, cs_in (by omega) (cs_A_up hA) (cs_B_copy hB _ _ cs_nar_ne)⟩)
    · exact cs_xcopy_s hu hs (cs_ycopy_s hu hs ⟨rfl, hup⟩)
  · exact cs_xcopy_u hu (cs_ycopy_u hu ⟨rfl, hup⟩)
theorem i_vc_tamper {k : Nat} {u : SX} {v : SY} (I : i_Rel k u v) (hk : k + 5 ≤ 2561) (v1 : Int32) (v2 : Int32) (v3 : Int32) : wpX_tamper (fun r u' => wpY_tamper (fun r' v' => r' = r ∧ i_Rel (k + 5) u' v') v v1 v2 v3) u v1 v2 v3 := by
  refine cs_el (P := fun u v => wpX_tamper (fun r u' => wpY_tamper (fun r' v' => r' = r ∧ i_Rel (k + 5) u' v') v v1 v2 v3) u v1 v2 v3) ?_ I
  intro m src L V S H LA F O R C SN SO SS ST SA RO GO GR GQ LL hm hA hB
  show wpX_tamper _ _ _ _ _
  have hup : i_Rel (k + 5) (nI m, src, L, V, S, SN, H, LA, F, O, R, C, SN, SO, SS, ST, SA) (L, V, RO, F, GO, GR, GQ, O, R, H, LL) := cs_in (by omega) (cs_A_up hA) hB
  have hO : ∀ i, vp_in (O i) 8 := hB.1
  by_cases hu : vp_in v1 2
  · by_cases hs : vp_in v2 8
    · have ha : vp_in (v1 * 8 + v2) 16 := cs_in_at hu hs
      by_cases hF : F (v1 * 8 + v2).toNatClampNeg = 0
      · exact cs_xtamper_0 hu hs hF (cs_ytamper_0 hu hs hF ⟨rfl, hup⟩)
      · exact cs_xtamper_1 hu hs hF (cs_ytamper_1 hu hs hF ⟨rfl, cs_in (by omega) (cs_A_up hA) (cs_B_tamper hB _ _)⟩)
    · exact cs_xtamper_s hu hs (cs_ytamper_s hu hs ⟨rfl, hup⟩)
  · exact cs_xtamper_u hu (cs_ytamper_u hu ⟨rfl, hup⟩)
theorem i_vc_clear {k : Nat} {u : SX} {v : SY} (I : i_Rel k u v) (hk : k + 5 ≤ 2561) (v1 : Int32) (v2 : Int32) : wpX_clear (fun r u' => wpY_clear (fun r' v' => r' = r ∧ i_Rel (k + 5) u' v') v v1 v2) u v1 v2 := by
  refine cs_el (P := fun u v => wpX_clear (fun r u' => wpY_clear (fun r' v' => r' = r ∧ i_Rel (k + 5) u' v') v v1 v2) u v1 v2) ?_ I
  intro m src L V S H LA F O R C SN SO SS ST SA RO GO GR GQ LL hm hA hB
  show wpX_clear _ _ _ _
  have hup : i_Rel (k + 5) (nI m, src, L, V, S, SN, H, LA, F, O, R, C, SN, SO, SS, ST, SA) (L, V, RO, F, GO, GR, GQ, O, R, H, LL) := cs_in (by omega) (cs_A_up hA) hB
  have hO : ∀ i, vp_in (O i) 8 := hB.1
  by_cases hu : vp_in v1 2
  · by_cases hs : vp_in v2 8
    · have ha : vp_in (v1 * 8 + v2) 16 := cs_in_at hu hs
      by_cases hF : F (v1 * 8 + v2).toNatClampNeg = 0
      · exact cs_xclear_0 hu hs hF (cs_yclear_0 hu hs hF ⟨rfl, cs_in (by omega) (cs_A_up hA) (cs_B_clear hB (cs_upd0 F _))⟩)
      · exact cs_xclear_1 hu hs hF (cs_yclear_1 hu hs hF ⟨rfl, cs_in (by omega) (cs_A_up hA) (cs_B_clear hB (cs_upd0 F _))⟩)
    · exact cs_xclear_s hu hs (cs_yclear_s hu hs ⟨rfl, hup⟩)
  · exact cs_xclear_u hu (cs_yclear_u hu ⟨rfl, hup⟩)
theorem i_vc_restart {k : Nat} {u : SX} {v : SY} (I : i_Rel k u v) (hk : k + 5 ≤ 2561) : wpX_restart (fun u' => wpY_restart (fun v' => i_Rel (k + 5) u' v') v) u := by
  refine cs_el (P := fun u v => wpX_restart (fun u' => wpY_restart (fun v' => i_Rel (k + 5) u' v') v) u) ?_ I
  intro m src L V S H LA F O R C SN SO SS ST SA RO GO GR GQ LL hm hA hB
  show wpX_restart _ _
  have hup : i_Rel (k + 5) (nI m, src, L, V, S, SN, H, LA, F, O, R, C, SN, SO, SS, ST, SA) (L, V, RO, F, GO, GR, GQ, O, R, H, LL) := cs_in (by omega) (cs_A_up hA) hB
  have hO : ∀ i, vp_in (O i) 8 := hB.1
  exact cs_xrestart (cs_yrestart (cs_in (by omega) (cs_A_restart hA) hB))
theorem i_vc_genuine {k : Nat} {u : SX} {v : SY} (I : i_Rel k u v) (hk : k + 5 ≤ 2561) (v1 : Int32) (v2 : Int32) : wpX_genuine (fun r => wpY_genuine (fun r' => r' = r ∧ i_Rel (k + 5) u v) v v1 v2) u v1 v2 := by
  refine cs_el (P := fun u v => wpX_genuine (fun r => wpY_genuine (fun r' => r' = r ∧ i_Rel (k + 5) u v) v v1 v2) u v1 v2) ?_ I
  intro m src L V S H LA F O R C SN SO SS ST SA RO GO GR GQ LL hm hA hB
  show wpX_genuine _ _ _ _
  have hup : i_Rel (k + 5) (nI m, src, L, V, S, SN, H, LA, F, O, R, C, SN, SO, SS, ST, SA) (L, V, RO, F, GO, GR, GQ, O, R, H, LL) := cs_in (by omega) (cs_A_up hA) hB
  have hO : ∀ i, vp_in (O i) 8 := hB.1
  by_cases hu : vp_in v1 2
  · by_cases hs : vp_in v2 8
    · have ha : vp_in (v1 * 8 + v2) 16 := cs_in_at hu hs
      exact cs_xgenuine_ok hu hs (hO _) (fun v => cs_ygen hu hs (hO _) (fun _ => ⟨rfl, hup⟩) (fun g => absurd ((cs_vg hB _).mp v) g)) (fun v => cs_ygen hu hs (hO _) (fun g => absurd ((cs_vg hB _).mpr g) v) (fun _ => ⟨rfl, hup⟩))
    · exact cs_xgenuine_s hu hs (cs_ygenuine_s hu hs ⟨rfl, hup⟩)
  · exact cs_xgenuine_u hu (cs_ygenuine_u hu ⟨rfl, hup⟩)
theorem i_vc_rights {k : Nat} {u : SX} {v : SY} (I : i_Rel k u v) (hk : k + 5 ≤ 2561) (v1 : Int32) (v2 : Int32) : wpX_rights (fun r => wpY_rights (fun r' => r' = r ∧ i_Rel (k + 5) u v) v v1 v2) u v1 v2 := by
  refine cs_el (P := fun u v => wpX_rights (fun r => wpY_rights (fun r' => r' = r ∧ i_Rel (k + 5) u v) v v1 v2) u v1 v2) ?_ I
  intro m src L V S H LA F O R C SN SO SS ST SA RO GO GR GQ LL hm hA hB
  show wpX_rights _ _ _ _
  have hup : i_Rel (k + 5) (nI m, src, L, V, S, SN, H, LA, F, O, R, C, SN, SO, SS, ST, SA) (L, V, RO, F, GO, GR, GQ, O, R, H, LL) := cs_in (by omega) (cs_A_up hA) hB
  have hO : ∀ i, vp_in (O i) 8 := hB.1
  by_cases hu : vp_in v1 2
  · by_cases hs : vp_in v2 8
    · have ha : vp_in (v1 * 8 + v2) 16 := cs_in_at hu hs
      by_cases hF : F (v1 * 8 + v2).toNatClampNeg = 0
      · exact cs_xrights_0 hu hs hF (cs_yrights_0 hu hs hF ⟨rfl, hup⟩)
      · exact cs_xrights_1 hu hs hF (cs_yrights_1 hu hs hF ⟨rfl, hup⟩)
    · exact cs_xrights_s hu hs (cs_yrights_s hu hs ⟨rfl, hup⟩)
  · exact cs_xrights_u hu (cs_yrights_u hu ⟨rfl, hup⟩)
theorem i_vc_alive {k : Nat} {u : SX} {v : SY} (I : i_Rel k u v) (hk : k + 5 ≤ 2561) : wpX_alive (fun r => wpY_alive (fun r' => r' = r ∧ i_Rel (k + 5) u v) v) u := by
  refine cs_el (P := fun u v => wpX_alive (fun r => wpY_alive (fun r' => r' = r ∧ i_Rel (k + 5) u v) v) u) ?_ I
  intro m src L V S H LA F O R C SN SO SS ST SA RO GO GR GQ LL hm hA hB
  show wpX_alive _ _
  have hup : i_Rel (k + 5) (nI m, src, L, V, S, SN, H, LA, F, O, R, C, SN, SO, SS, ST, SA) (L, V, RO, F, GO, GR, GQ, O, R, H, LL) := cs_in (by omega) (cs_A_up hA) hB
  have hO : ∀ i, vp_in (O i) 8 := hB.1
  obtain ⟨r, hX, hY⟩ := cs_alive (nI m) src V S SN H LA F O R C SN SO SS ST SA V RO F GO GR GQ O R H LL L 8 0 0 (by omega)
  unfold wpX_alive wpY_alive
  exact ⟨9, hX _ ⟨9, hY _ ⟨rfl, hup⟩⟩⟩
end
