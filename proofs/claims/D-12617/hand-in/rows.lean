section
/-! bits of longs: a long as a set of the numbers 1 to 62 -/
theorem mh_b1 (w : Int64) (s : UInt64) : ((w.toUInt64 >>> s).toInt64 &&& 1) = if w.toBitVec.getLsbD (s.toNat % 64) = true then 1 else 0 := by
  have e : (w.toUInt64 >>> s).toInt64.toBitVec = w.toBitVec >>> (s.toNat % 64) := by
    apply BitVec.eq_of_toNat_eq
    show (w.toUInt64 >>> s).toNat = _
    rw [UInt64.toNat_shiftRight, BitVec.toNat_ushiftRight]
    rfl
  apply Int64.toBitVec_inj.mp
  rw [Int64.toBitVec_and, e]
  by_cases h : w.toBitVec.getLsbD (s.toNat % 64) = true
  · rw [if_pos h]
    show w.toBitVec >>> (s.toNat % 64) &&& 1#64 = 1#64
    apply BitVec.eq_of_getLsbD_eq
    intro i hi
    cases i with
    | zero => simp [h]
    | succ i => simp
  · rw [if_neg h]
    show w.toBitVec >>> (s.toNat % 64) &&& 1#64 = 0#64
    apply BitVec.eq_of_getLsbD_eq
    intro i hi
    cases i with
    | zero => simp [h]
    | succ i => simp
/-- the printed test of one bit -/
def mh_mb (S : Int64) (n : Int32) : Prop := (((S.toUInt64 >>> (n.toInt64.toUInt64 &&& Int64.toUInt64 63)).toInt64) &&& 1) = 1
theorem mh_mb_iff (S : Int64) (n : Int32) : mh_mb S n ↔ S.toBitVec.getLsbD ((n.toInt64.toUInt64 &&& Int64.toUInt64 63).toNat % 64) = true := by
  unfold mh_mb
  rw [mh_b1]
  by_cases h : S.toBitVec.getLsbD ((n.toInt64.toUInt64 &&& Int64.toUInt64 63).toNat % 64) = true
  · rw [if_pos h]
    exact ⟨fun _ => h, fun _ => rfl⟩
  · rw [if_neg h]
    exact ⟨fun z => absurd z (by decide), fun z => absurd z h⟩
theorem mh_mb_0 (S : Int64) (n : Int32) : (((S.toUInt64 >>> (n.toInt64.toUInt64 &&& Int64.toUInt64 63)).toInt64) &&& 1) = 0 ↔ ¬ mh_mb S n := by
  rw [mh_mb_iff, mh_b1]
  by_cases h : S.toBitVec.getLsbD ((n.toInt64.toUInt64 &&& Int64.toUInt64 63).toNat % 64) = true
  · rw [if_pos h]
    exact ⟨fun z => absurd z (by decide), fun z => absurd h z⟩
  · rw [if_neg h]
    exact ⟨fun _ => h, fun _ => rfl⟩
theorem mh_mb_or (S T : Int64) (n : Int32) : mh_mb (S ||| T) n ↔ mh_mb S n ∨ mh_mb T n := by
  rw [mh_mb_iff, mh_mb_iff, mh_mb_iff, Int64.toBitVec_or, BitVec.getLsbD_or, Bool.or_eq_true]
theorem mh_mb_and (S T : Int64) (n : Int32) : mh_mb (S &&& T) n ↔ mh_mb S n ∧ mh_mb T n := by
  rw [mh_mb_iff, mh_mb_iff, mh_mb_iff, Int64.toBitVec_and, BitVec.getLsbD_and, Bool.and_eq_true]
theorem mh_mb_not (T : Int64) (n : Int32) : mh_mb (T ^^^ (-1)) n ↔ ¬ mh_mb T n := by
  rw [mh_mb_iff, mh_mb_iff, Int64.toBitVec_xor, BitVec.getLsbD_xor]
  have e : (-1 : Int64).toBitVec = BitVec.allOnes 64 := by decide
  have hl : (n.toInt64.toUInt64 &&& Int64.toUInt64 63).toNat % 64 < 64 := Nat.mod_lt _ (by decide)
  rw [e, BitVec.getLsbD_allOnes, decide_eq_true hl]
  simp
theorem mh_mb_z (n : Int32) : ¬ mh_mb 0 n := by
  rw [mh_mb_iff]
  have e : (0 : Int64).toBitVec = 0#64 := rfl
  rw [e]
  simp
theorem mh_tp : ∀ k, k < 63 → ((1 : Int64) <<< ((nI k).toInt64 &&& 63)).toBitVec = BitVec.twoPow 64 k := by decide +kernel
theorem mh_ix : ∀ k, k < 63 → ((nI k).toInt64.toUInt64 &&& Int64.toUInt64 63).toNat % 64 = k := by decide +kernel
theorem mh_mb_bit {k l : Nat} (hk : k < 63) (hl : l < 63) : mh_mb ((1 : Int64) <<< ((nI k).toInt64 &&& 63)) (nI l) ↔ k = l := by
  rw [mh_mb_iff, mh_tp k hk, mh_ix l hl, BitVec.getLsbD_twoPow, decide_eq_true (show k < 64 by omega)]
  simp
/-- a number of 0 to 62 -/
def mh_ok (n : Int32) : Prop := ∃ k : Nat, k < 63 ∧ n = nI k
/-- a long as a set -/
def mh_st (S : Int64) (n : Int32) : Prop := mh_ok n ∧ n ≠ 0 ∧ mh_mb S n
theorem mh_ok_0 : mh_ok 0 := ⟨0, by decide, rfl⟩
theorem mh_st_ne {S : Int64} {n : Int32} (h : mh_st S n) : n ≠ 0 := h.2.1
theorem mh_st_0 {S : Int64} : ¬ mh_st S 0 := fun h => h.2.1 rfl
theorem mh_st_mb {S : Int64} {n : Int32} (h : mh_ok n) (h0 : n ≠ 0) : mh_st S n ↔ mh_mb S n := ⟨fun z => z.2.2, fun z => ⟨h, h0, z⟩⟩
theorem mh_st_or (S T : Int64) (n : Int32) : mh_st (S ||| T) n ↔ mh_st S n ∨ mh_st T n := by
  simp only [mh_st, mh_mb_or, and_or_left]
theorem mh_st_and (S T : Int64) (n : Int32) : mh_st (S &&& T) n ↔ mh_st S n ∧ mh_st T n := by
  unfold mh_st
  rw [mh_mb_and]
  exact ⟨fun z => ⟨⟨z.1, z.2.1, z.2.2.1⟩, z.1, z.2.1, z.2.2.2⟩, fun z => ⟨z.1.1, z.1.2.1, z.1.2.2, z.2.2.2⟩⟩
theorem mh_st_del (S T : Int64) (n : Int32) : mh_st (S &&& (T ^^^ (-1))) n ↔ mh_st S n ∧ ¬ mh_st T n := by
  unfold mh_st
  rw [mh_mb_and, mh_mb_not]
  exact ⟨fun z => ⟨⟨z.1, z.2.1, z.2.2.1⟩, fun y => z.2.2.2 y.2.2⟩, fun z => ⟨z.1.1, z.1.2.1, z.1.2.2, fun y => z.2 ⟨z.1.1, z.1.2.1, y⟩⟩⟩
theorem mh_st_z (n : Int32) : ¬ mh_st 0 n := fun h => mh_mb_z n h.2.2
theorem mh_st_bit {m : Int32} (hm : mh_ok m) (n : Int32) : mh_st ((1 : Int64) <<< (m.toInt64 &&& 63)) n ↔ n = m ∧ n ≠ 0 := by
  obtain ⟨k, hk, rfl⟩ := hm
  constructor
  · rintro ⟨⟨l, hl, rfl⟩, h0, h⟩
    have e := (mh_mb_bit hk hl).mp h
    subst e
    exact ⟨rfl, h0⟩
  · rintro ⟨rfl, h0⟩
    exact ⟨⟨k, hk, rfl⟩, h0, (mh_mb_bit hk hk).mpr rfl⟩
/-! bits of ints: rows 0 to 7 -/
theorem mh_i1 (y : Int32) : (y &&& 1) = if y.toBitVec.getLsbD 0 = true then 1 else 0 := by
  apply Int32.toBitVec_inj.mp
  rw [Int32.toBitVec_and]
  by_cases h : y.toBitVec.getLsbD 0 = true
  · rw [if_pos h]
    show y.toBitVec &&& 1#32 = 1#32
    apply BitVec.eq_of_getLsbD_eq
    intro i hi
    cases i with
    | zero => simp [h]
    | succ i => simp
  · rw [if_neg h]
    show y.toBitVec &&& 1#32 = 0#32
    apply BitVec.eq_of_getLsbD_eq
    intro i hi
    cases i with
    | zero => simpa using h
    | succ i => simp
theorem mh_sl31 : ∀ n, n < 32 → ((nI n &&& 31).toBitVec.smod 32).toNat = n := by decide +kernel
def mh_tb (x r : Int32) : Prop := ((x >>> (r &&& 31)) &&& 1) = 1
theorem mh_tb_iff (x : Int32) {j : Nat} (hj : j < 8) : mh_tb x (nI j) ↔ x.toBitVec.getLsbD j = true := by
  have e : (x >>> (nI j &&& 31)).toBitVec.getLsbD 0 = x.toBitVec.getLsbD j := by
    rw [Int32.toBitVec_shiftRight]
    show (x.toBitVec.sshiftRight ((nI j &&& 31).toBitVec.smod 32).toNat).getLsbD 0 = _
    rw [mh_sl31 j (by omega), BitVec.getLsbD_sshiftRight]
    simp [show j < 32 by omega]
  unfold mh_tb
  rw [mh_i1, e]
  by_cases h : x.toBitVec.getLsbD j = true
  · rw [if_pos h]
    exact ⟨fun _ => h, fun _ => rfl⟩
  · rw [if_neg h]
    exact ⟨fun z => absurd z (by decide), fun z => absurd z h⟩
def mh_rk (r : Int32) : Prop := ∃ j : Nat, j < 8 ∧ r = nI j
/-- an int as a set of rows -/
def mh_tr (x r : Int32) : Prop := mh_rk r ∧ mh_tb x r
theorem mh_tr_or (x y r : Int32) : mh_tr (x ||| y) r ↔ mh_tr x r ∨ mh_tr y r := by
  constructor
  · rintro ⟨⟨j, hj, rfl⟩, h⟩
    rw [mh_tb_iff _ hj, Int32.toBitVec_or, BitVec.getLsbD_or, Bool.or_eq_true] at h
    rcases h with h | h
    · exact Or.inl ⟨⟨j, hj, rfl⟩, (mh_tb_iff _ hj).mpr h⟩
    · exact Or.inr ⟨⟨j, hj, rfl⟩, (mh_tb_iff _ hj).mpr h⟩
  · rintro (⟨⟨j, hj, rfl⟩, h⟩ | ⟨⟨j, hj, rfl⟩, h⟩)
    · refine ⟨⟨j, hj, rfl⟩, (mh_tb_iff _ hj).mpr ?_⟩
      rw [Int32.toBitVec_or, BitVec.getLsbD_or, (mh_tb_iff _ hj).mp h, Bool.true_or]
    · refine ⟨⟨j, hj, rfl⟩, (mh_tb_iff _ hj).mpr ?_⟩
      rw [Int32.toBitVec_or, BitVec.getLsbD_or, (mh_tb_iff _ hj).mp h, Bool.or_true]
theorem mh_tr_0 (r : Int32) : ¬ mh_tr 0 r := by
  rintro ⟨⟨j, hj, rfl⟩, h⟩
  rw [mh_tb_iff _ hj] at h
  exact absurd h (by show ¬ (0#32).getLsbD j = true; simp)
theorem mh_shl8 : ∀ i, i < 8 → ∀ j, j < 8 → ((((1 : Int32) <<< (nI i &&& 31)) >>> (nI j &&& 31)) &&& 1 = 1 ↔ j = i) := by decide +kernel
theorem mh_tr_bit {s : Int32} (hs : mh_rk s) (r : Int32) : mh_tr ((1 : Int32) <<< (s &&& 31)) r ↔ r = s := by
  obtain ⟨i, hi, rfl⟩ := hs
  constructor
  · rintro ⟨⟨j, hj, rfl⟩, h⟩
    rw [(mh_shl8 i hi j hj).mp h]
  · rintro rfl
    exact ⟨⟨i, hi, rfl⟩, (mh_shl8 i hi i hi).mpr rfl⟩
theorem mh_nI_or (a b : Nat) : nI a ||| nI b = nI (a ||| b) := by
  apply Int32.toBitVec_inj.1
  show BitVec.ofNat 32 a ||| BitVec.ofNat 32 b = BitVec.ofNat 32 (a ||| b)
  apply BitVec.eq_of_getLsbD_eq
  intro i hi
  simp [hi]
theorem mh_or_nn {x y : Int32} (hx : 0 ≤ x) (hy : 0 ≤ y) : 0 ≤ x ||| y := by
  obtain ⟨a, ha, rfl⟩ := nI_of (x := x) (Int32.not_lt.mpr hx)
  obtain ⟨b, hb, rfl⟩ := nI_of (x := y) (Int32.not_lt.mpr hy)
  rw [mh_nI_or]
  exact nI_pos' (Nat.or_lt_two_pow ha hb)
theorem mh_bit_nn : ∀ i, i < 8 → 0 ≤ (1 : Int32) <<< (nI i &&& 31) := by decide +kernel
end
section
/-! the pure picture: sets of numbers, versions, slots (t, k): transaction t runs at level k -/
/-- version v is seen with the set S -/
def mh_Q (U : Nat → Prop) (mk en : Nat → Int32) (S : Int32 → Prop) (v : Nat) : Prop := U v ∧ (mk v = 0 ∨ S (mk v)) ∧ ¬ S (en v)
/-- at most one version of a row is seen -/
def mh_un (U : Nat → Prop) (ro mk en : Nat → Int32) (S : Int32 → Prop) : Prop := ∀ v w, mh_Q U mk en S v → mh_Q U mk en S w → ro v = ro w → v = w
/-- what transaction t sees with at its level j -/
def mh_VS (sn : Nat → Int32 → Prop) (nu : Nat → Nat → Int32) (t j : Nat) (n : Int32) : Prop := sn t n ∨ ∃ k, k ≤ j ∧ nu t k = n
def mh_J (Cs Rs : Int32 → Prop) (U : Nat → Prop) (ro mk en : Nat → Int32) (sl : Nat → Nat → Prop) (sn : Nat → Int32 → Prop) (nu : Nat → Nat → Int32) (tt : Nat → Nat → Int32 → Prop) (ov : Nat → Int32 → Prop) : Prop :=
  (∀ n, Cs n → n ≠ 0 ∧ ¬ Rs n) ∧
  (∀ n, Rs n ↔ ∃ t k, sl t k ∧ nu t k = n) ∧
  (∀ t k, sl t k → nu t k ≠ 0 ∧ ∀ j, j ≤ k → sl t j) ∧
  (∀ t k t' k', sl t k → sl t' k' → nu t k = nu t' k' → t = t' ∧ k = k') ∧
  (∀ t, sl t 0 → ∀ n, sn t n → Cs n) ∧
  (∀ t, sl t 0 → ∀ v, U v → (Cs (mk v) → ¬ sn t (mk v) → ov t (ro v)) ∧ (Cs (en v) → ¬ sn t (en v) → ov t (ro v))) ∧
  (∀ t k, sl t k → ∀ v, U v → (mk v = nu t k ∨ en v = nu t k) → tt t k (ro v)) ∧
  (∀ t k r, sl t k → tt t k r → ¬ ov t r ∧ ∀ t' k', sl t' k' → tt t' k' r → t' = t) ∧
  (∀ v, U v → ∀ t k, sl t k → mk v = nu t k → ¬ Cs (en v) ∧ ∀ t' k', sl t' k' → en v = nu t' k' → t' = t) ∧
  mh_un U ro mk en Cs ∧
  (∀ t j, sl t j → mh_un U ro mk en (mh_VS sn nu t j))
section
variable {Cs Rs Cs' Rs' : Int32 → Prop} {U U' : Nat → Prop} {ro mk en ro' mk' en' : Nat → Int32} {sl sl' : Nat → Nat → Prop} {sn sn' : Nat → Int32 → Prop} {nu nu' : Nat → Nat → Int32} {tt tt' : Nat → Nat → Int32 → Prop} {ov ov' : Nat → Int32 → Prop}
theorem mh_un_mono {S S' : Int32 → Prop} (h : mh_un U ro mk en S) (hq : ∀ v, mh_Q U' mk' en' S' v → mh_Q U mk en S v) (hr : ∀ v, mh_Q U' mk' en' S' v → ro' v = ro v) : mh_un U' ro' mk' en' S' := by
  intro v w hv hw e
  exact h v w (hq v hv) (hq w hw) (by rw [← hr v hv, ← hr w hw, e])
theorem mh_un_congr {S S' : Int32 → Prop} (h : mh_un U ro mk en S) (hq : ∀ n, S' n ↔ S n) : mh_un U ro mk en S' := by
  refine mh_un_mono h (fun v hv => ?_) (fun v _ => rfl)
  obtain ⟨a, b, c⟩ := hv
  exact ⟨a, b.imp id (hq _).mp, fun z => c ((hq _).mpr z)⟩
/-- slots fall away: abort, back, crash -/
theorem mh_T_less (hJ : mh_J Cs Rs U ro mk en sl sn nu tt ov) (h1 : ∀ t k, sl' t k → sl t k) (h2 : ∀ t k, sl' t k → ∀ j, j ≤ k → sl' t j) (h3 : ∀ n, Rs' n ↔ ∃ t k, sl' t k ∧ nu t k = n) :
    mh_J Cs Rs' U ro mk en sl' sn nu tt ov := by
  obtain ⟨a0, a1, a2, a3, a4, a5, a6, a7, a8, a9, a10⟩ := hJ
  refine ⟨?_, h3, ?_, ?_, ?_, ?_, ?_, ?_, ?_, a9, ?_⟩
  · intro n hn
    refine ⟨(a0 n hn).1, fun hr => (a0 n hn).2 ?_⟩
    obtain ⟨t, k, hs, e⟩ := (h3 n).mp hr
    exact (a1 n).mpr ⟨t, k, h1 t k hs, e⟩
  · exact fun t k hs => ⟨(a2 t k (h1 t k hs)).1, h2 t k hs⟩
  · exact fun t k t' k' hs hs' => a3 t k t' k' (h1 _ _ hs) (h1 _ _ hs')
  · exact fun t hs => a4 t (h1 _ _ hs)
  · exact fun t hs => a5 t (h1 _ _ hs)
  · exact fun t k hs => a6 t k (h1 _ _ hs)
  · intro t k r hs ht
    obtain ⟨b1, b2⟩ := a7 t k r (h1 _ _ hs) ht
    exact ⟨b1, fun t' k' hs' => b2 t' k' (h1 _ _ hs')⟩
  · intro v hv t k hs e
    obtain ⟨b1, b2⟩ := a8 v hv t k (h1 _ _ hs) e
    exact ⟨b1, fun t' k' hs' => b2 t' k' (h1 _ _ hs')⟩
  · exact fun t j hs => a10 t j (h1 _ _ hs)
/-- the running numbers without those of one transaction -/
theorem mh_run_less (hJ : mh_J Cs Rs U ro mk en sl sn nu tt ov) (t : Nat) (n : Int32) : (Rs n ∧ ¬ ∃ k, sl t k ∧ nu t k = n) ↔ ∃ a k, (sl a k ∧ a ≠ t) ∧ nu a k = n := by
  obtain ⟨a0, a1, a2, a3, -⟩ := hJ
  constructor
  · rintro ⟨h, h'⟩
    obtain ⟨a, k, hs, e⟩ := (a1 n).mp h
    exact ⟨a, k, ⟨hs, fun z => h' ⟨k, z ▸ hs, z ▸ e⟩⟩, e⟩
  · rintro ⟨a, k, ⟨hs, hne⟩, e⟩
    refine ⟨(a1 n).mpr ⟨a, k, hs, e⟩, ?_⟩
    rintro ⟨k', hs', e'⟩
    exact hne (a3 a k t k' hs hs' (by rw [e, e'])).1
/-- a transaction commits -/
theorem mh_T_commit {t l : Nat} (hJ : mh_J Cs Rs U ro mk en sl sn nu tt ov) (htop : ∀ k, sl t k ↔ k ≤ l)
    (hs' : ∀ a k, sl' a k ↔ sl a k ∧ a ≠ t) (hR : ∀ n, Rs' n ↔ Rs n ∧ ¬ ∃ k, sl t k ∧ nu t k = n) (hC : ∀ n, Cs' n ↔ Cs n ∨ ∃ k, sl t k ∧ nu t k = n)
    (hov : ∀ a, sl' a 0 → ∀ r, ov' a r ↔ ov a r ∨ ∃ k, sl t k ∧ tt t k r) : mh_J Cs' Rs' U ro mk en sl' sn nu tt ov' := by
  have hrl := mh_run_less hJ t
  obtain ⟨a0, a1, a2, a3, a4, a5, a6, a7, a8, a9, a10⟩ := hJ
  have h3 : ∀ n, Rs' n ↔ ∃ a k, sl' a k ∧ nu a k = n := by
    intro n
    rw [hR, hrl]
    constructor
    · rintro ⟨a, k, h, e⟩
      exact ⟨a, k, (hs' a k).mpr h, e⟩
    · rintro ⟨a, k, h, e⟩
      exact ⟨a, k, (hs' a k).mp h, e⟩
  have hl : ∀ a k, sl' a k → sl a k := fun a k h => ((hs' a k).mp h).1
  have ht0 : sl t l := (htop l).mpr (Nat.le_refl l)
  have ht00 : sl t 0 := (htop 0).mpr (Nat.zero_le l)
  refine ⟨?_, h3, ?_, ?_, ?_, ?_, ?_, ?_, ?_, ?_, ?_⟩
  · intro n hn
    rcases (hC n).mp hn with h | ⟨k, hk, e⟩
    · exact ⟨(a0 n h).1, fun hr => (a0 n h).2 ((hR n).mp hr).1⟩
    · exact ⟨e ▸ (a2 t k hk).1, fun hr => ((hR n).mp hr).2 ⟨k, hk, e⟩⟩
  · exact fun a k h => ⟨(a2 a k (hl a k h)).1, fun j hj => (hs' a j).mpr ⟨(a2 a k (hl a k h)).2 j hj, ((hs' a k).mp h).2⟩⟩
  · exact fun a k a' k' h h' => a3 a k a' k' (hl _ _ h) (hl _ _ h')
  · exact fun a h n hn => (hC n).mpr (Or.inl (a4 a (hl _ _ h) n hn))
  · intro a h v hv
    obtain ⟨b1, b2⟩ := a5 a (hl _ _ h) v hv
    constructor
    · intro hc hn
      rcases (hC _).mp hc with h' | ⟨k, hk, e⟩
      · exact (hov a h _).mpr (Or.inl (b1 h' hn))
      · exact (hov a h _).mpr (Or.inr ⟨k, hk, a6 t k hk v hv (Or.inl e.symm)⟩)
    · intro hc hn
      rcases (hC _).mp hc with h' | ⟨k, hk, e⟩
      · exact (hov a h _).mpr (Or.inl (b2 h' hn))
      · exact (hov a h _).mpr (Or.inr ⟨k, hk, a6 t k hk v hv (Or.inr e.symm)⟩)
  · exact fun a k h => a6 a k (hl _ _ h)
  · intro a k r h ht
    obtain ⟨b1, b2⟩ := a7 a k r (hl _ _ h) ht
    refine ⟨fun z => ?_, fun a' k' h' => b2 a' k' (hl _ _ h')⟩
    have h0 : sl' a 0 := (hs' a 0).mpr ⟨(a2 a k (hl a k h)).2 0 (Nat.zero_le k), ((hs' a k).mp h).2⟩
    rcases (hov a h0 r).mp z with z | ⟨k', hk', z⟩
    · exact b1 z
    · exact ((hs' a k).mp h).2 (b2 t k' hk' z).symm
  · intro v hv a k h e
    obtain ⟨b1, b2⟩ := a8 v hv a k (hl _ _ h) e
    refine ⟨fun z => ?_, fun a' k' h' => b2 a' k' (hl _ _ h')⟩
    rcases (hC _).mp z with z | ⟨k', hk', z⟩
    · exact b1 z
    · exact ((hs' a k).mp h).2 (b2 t k' hk' z.symm).symm
  · intro v w hv hw e
    by_cases hr : ∃ k, sl t k ∧ tt t k (ro v)
    · obtain ⟨k0, hk0, htt⟩ := hr
      have hno : ¬ ov t (ro v) := (a7 t k0 _ hk0 htt).1
      have key : ∀ x, ro x = ro v → mh_Q U mk en Cs' x → mh_Q U mk en (mh_VS sn nu t l) x := by
        rintro x ex ⟨u1, u2, u3⟩
        refine ⟨u1, ?_, ?_⟩
        · rcases u2 with u2 | u2
          · exact Or.inl u2
          · rcases (hC _).mp u2 with z | ⟨k, hk, z⟩
            · by_cases q : sn t (mk x)
              · exact Or.inr (Or.inl q)
              · exact absurd (ex ▸ (a5 t ht00 x u1).1 z q) hno
            · exact Or.inr (Or.inr ⟨k, (htop k).mp hk, z⟩)
        · rintro (z | ⟨k, hk, z⟩)
          · exact u3 ((hC _).mpr (Or.inl (a4 t ht00 _ z)))
          · exact u3 ((hC _).mpr (Or.inr ⟨k, (htop k).mpr hk, z⟩))
      exact a10 t l ht0 v w (key v rfl hv) (key w e.symm hw) e
    · have key : ∀ x, ro x = ro v → mh_Q U mk en Cs' x → mh_Q U mk en Cs x := by
        rintro x ex ⟨u1, u2, u3⟩
        refine ⟨u1, ?_, fun z => u3 ((hC _).mpr (Or.inl z))⟩
        rcases u2 with u2 | u2
        · exact Or.inl u2
        · rcases (hC _).mp u2 with z | ⟨k, hk, z⟩
          · exact Or.inr z
          · exact absurd ⟨k, hk, ex ▸ a6 t k hk x u1 (Or.inl z.symm)⟩ hr
      exact a9 v w (key v rfl hv) (key w e.symm hw) e
  · exact fun a j h => a10 a j (hl _ _ h)
/-- a new number: a transaction begins (l = 0), or one more savepoint -/
theorem mh_T_new {t l : Nat} {n : Int32} (hJ : mh_J Cs Rs U ro mk en sl sn nu tt ov) (hl : ∀ k, sl t k ↔ k < l)
    (n0 : n ≠ 0) (nC : ¬ Cs n) (nR : ¬ Rs n) (nU : ∀ v, U v → mk v ≠ n ∧ en v ≠ n)
    (hs' : ∀ a k, sl' a k ↔ sl a k ∨ (a = t ∧ k = l)) (hR : ∀ m, Rs' m ↔ Rs m ∨ m = n)
    (hn1 : nu' t l = n) (hn2 : ∀ a k, sl a k → nu' a k = nu a k)
    (ht1 : ∀ r, ¬ tt' t l r) (ht2 : ∀ a k r, sl a k → (tt' a k r ↔ tt a k r))
    (hs1 : ∀ a, sl a 0 → (∀ m, sn' a m ↔ sn a m) ∧ ∀ r, ov' a r ↔ ov a r) (hs2 : ¬ sl t 0 → (∀ m, sn' t m ↔ Cs m) ∧ ∀ r, ¬ ov' t r) :
    mh_J Cs Rs' U ro mk en sl' sn' nu' tt' ov' := by
  obtain ⟨a0, a1, a2, a3, a4, a5, a6, a7, a8, a9, a10⟩ := hJ
  have hnl : ¬ sl t l := fun h => absurd ((hl l).mp h) (Nat.lt_irrefl l)
  have ss : ∀ a k, sl a k → sl' a k := fun a k h => (hs' a k).mpr (Or.inl h)
  have s0 : ∀ a k, sl a k → sl a 0 := fun a k h => (a2 a k h).2 0 (Nat.zero_le k)
  have s0' : ∀ a k, sl' a k → sl a 0 ∨ (a = t ∧ ¬ sl t 0) := by
    intro a k h
    rcases (hs' a k).mp h with h | ⟨h, _⟩
    · exact Or.inl (s0 a k h)
    · subst h
      by_cases q : sl a 0
      · exact Or.inl q
      · exact Or.inr ⟨rfl, q⟩
  have snC : ∀ a, sl' a 0 → ∀ m, sn' a m → Cs m := by
    intro a h m hm
    rcases s0' a 0 h with q | ⟨rfl, q⟩
    · exact a4 a q m (((hs1 a q).1 m).mp hm)
    · exact ((hs2 q).1 m).mp hm
  have old : ∀ a k, sl a k → nu a k ≠ n := fun a k h e => nR ((a1 n).mpr ⟨a, k, h, e⟩)
  refine ⟨?_, ?_, ?_, ?_, snC, ?_, ?_, ?_, ?_, a9, ?_⟩
  · intro m hm
    refine ⟨(a0 m hm).1, fun z => ?_⟩
    rcases (hR m).mp z with z | z
    · exact (a0 m hm).2 z
    · exact nC (z ▸ hm)
  · intro m
    rw [hR]
    constructor
    · rintro (h | h)
      · obtain ⟨a, k, h1, h2⟩ := (a1 m).mp h
        exact ⟨a, k, ss _ _ h1, by rw [hn2 a k h1, h2]⟩
      · exact ⟨t, l, (hs' t l).mpr (Or.inr ⟨rfl, rfl⟩), by rw [hn1, h]⟩
    · rintro ⟨a, k, h1, h2⟩
      rcases (hs' a k).mp h1 with h | ⟨rfl, rfl⟩
      · exact Or.inl ((a1 m).mpr ⟨a, k, h, by rw [← hn2 a k h, h2]⟩)
      · exact Or.inr (by rw [← h2, hn1])
  · intro a k h
    rcases (hs' a k).mp h with h | ⟨rfl, rfl⟩
    · exact ⟨by rw [hn2 a k h]; exact (a2 a k h).1, fun j hj => ss _ _ ((a2 a k h).2 j hj)⟩
    · refine ⟨by rw [hn1]; exact n0, fun j hj => ?_⟩
      by_cases q : j = k
      · exact (hs' a j).mpr (Or.inr ⟨rfl, q⟩)
      · exact ss _ _ ((hl j).mpr (by omega))
  · intro a k a' k' h h' e
    rcases (hs' a k).mp h with h | ⟨rfl, rfl⟩
    · rcases (hs' a' k').mp h' with h' | ⟨rfl, rfl⟩
      · exact a3 a k a' k' h h' (by rw [← hn2 a k h, ← hn2 a' k' h', e])
      · exact absurd (by rw [← hn2 a k h, e, hn1]) (old a k h)
    · rcases (hs' a' k').mp h' with h' | ⟨rfl, rfl⟩
      · exact absurd (by rw [← hn2 a' k' h', ← e, hn1]) (old a' k' h')
      · exact ⟨rfl, rfl⟩
  · intro a h v hv
    rcases s0' a 0 h with q | ⟨rfl, q⟩
    · obtain ⟨b1, b2⟩ := a5 a q v hv
      obtain ⟨c1, c2⟩ := hs1 a q
      exact ⟨fun z y => (c2 _).mpr (b1 z (fun x => y ((c1 _).mpr x))), fun z y => (c2 _).mpr (b2 z (fun x => y ((c1 _).mpr x)))⟩
    · exact ⟨fun z y => absurd (((hs2 q).1 _).mpr z) y, fun z y => absurd (((hs2 q).1 _).mpr z) y⟩
  · intro a k h v hv e
    rcases (hs' a k).mp h with h | ⟨rfl, rfl⟩
    · rw [hn2 a k h] at e
      exact (ht2 a k _ h).mpr (a6 a k h v hv e)
    · rw [hn1] at e
      rcases e with e | e
      · exact absurd e (nU v hv).1
      · exact absurd e (nU v hv).2
  · intro a k r h ht
    rcases (hs' a k).mp h with h | ⟨rfl, rfl⟩
    · obtain ⟨b1, b2⟩ := a7 a k r h ((ht2 a k r h).mp ht)
      refine ⟨fun z => b1 (((hs1 a (s0 a k h)).2 r).mp z), fun a' k' h' z => ?_⟩
      rcases (hs' a' k').mp h' with h' | ⟨rfl, rfl⟩
      · exact b2 a' k' h' ((ht2 a' k' r h').mp z)
      · exact absurd z (ht1 r)
    · exact absurd ht (ht1 r)
  · intro v hv a k h e
    rcases (hs' a k).mp h with h | ⟨rfl, rfl⟩
    · rw [hn2 a k h] at e
      obtain ⟨b1, b2⟩ := a8 v hv a k h e
      refine ⟨b1, fun a' k' h' z => ?_⟩
      rcases (hs' a' k').mp h' with h' | ⟨rfl, rfl⟩
      · rw [hn2 a' k' h'] at z
        exact b2 a' k' h' z
      · rw [hn1] at z
        exact absurd z (nU v hv).2
    · rw [hn1] at e
      exact absurd e (nU v hv).1
  · intro a j h
    rcases (hs' a j).mp h with h | ⟨rfl, rfl⟩
    · refine mh_un_congr (a10 a j h) (fun m => ?_)
      have e1 := (hs1 a (s0 a j h)).1 m
      constructor
      · rintro (z | ⟨k, hk, z⟩)
        · exact Or.inl (e1.mp z)
        · exact Or.inr ⟨k, hk, by rw [← hn2 a k ((a2 a j h).2 k hk), z]⟩
      · rintro (z | ⟨k, hk, z⟩)
        · exact Or.inl (e1.mpr z)
        · exact Or.inr ⟨k, hk, by rw [hn2 a k ((a2 a j h).2 k hk), z]⟩
    · cases j with
      | zero =>
        have q : ¬ sl a 0 := fun z => absurd ((hl 0).mp z) (Nat.lt_irrefl 0)
        refine mh_un_mono a9 (fun v hv => ?_) (fun v _ => rfl)
        obtain ⟨u1, u2, u3⟩ := hv
        refine ⟨u1, ?_, fun z => u3 (Or.inl (((hs2 q).1 _).mpr z))⟩
        rcases u2 with u2 | u2 | ⟨k, hk, u2⟩
        · exact Or.inl u2
        · exact Or.inr (((hs2 q).1 _).mp u2)
        · have : k = 0 := by omega
          subst this
          exact absurd (by rw [← u2, hn1]) (nU v u1).1
      | succ j =>
        have q : sl a j := (hl j).mpr (by omega)
        have e1 := fun m => (hs1 a (s0 a j q)).1 m
        refine mh_un_mono (a10 a j q) (fun v hv => ?_) (fun v _ => rfl)
        obtain ⟨u1, u2, u3⟩ := hv
        refine ⟨u1, ?_, ?_⟩
        · rcases u2 with u2 | u2 | ⟨k, hk, u2⟩
          · exact Or.inl u2
          · exact Or.inr (Or.inl ((e1 _).mp u2))
          · by_cases qk : k = j + 1
            · subst qk
              exact absurd (by rw [← u2, hn1]) (nU v u1).1
            · exact Or.inr (Or.inr ⟨k, by omega, by rw [← hn2 a k ((hl k).mpr (by omega)), u2]⟩)
        · rintro (z | ⟨k, hk, z⟩)
          · exact u3 (Or.inl ((e1 _).mpr z))
          · exact u3 (Or.inr ⟨k, by omega, by rw [hn2 a k ((hl k).mpr (by omega)), z]⟩)
end
end
section
/-! the pure picture: writes, tidying -/
section
variable {Cs Rs Cs' Rs' : Int32 → Prop} {U U' : Nat → Prop} {ro mk en ro' mk' en' : Nat → Int32} {sl sl' : Nat → Nat → Prop} {sn sn' : Nat → Int32 → Prop} {nu nu' : Nat → Nat → Int32} {tt tt' : Nat → Nat → Int32 → Prop} {ov ov' : Nat → Int32 → Prop}
/-- a row is marked as changed -/
theorem mh_T_touch {t l : Nat} {r : Int32} (hJ : mh_J Cs Rs U ro mk en sl sn nu tt ov) (hb1 : ∀ a k, sl a k → tt a k r → a = t) (hb2 : ¬ ov t r)
    (ht : ∀ a k r', sl a k → (tt' a k r' ↔ tt a k r' ∨ (a = t ∧ k = l ∧ r' = r))) : mh_J Cs Rs U ro mk en sl sn nu tt' ov := by
  obtain ⟨a0, a1, a2, a3, a4, a5, a6, a7, a8, a9, a10⟩ := hJ
  refine ⟨a0, a1, a2, a3, a4, a5, ?_, ?_, a8, a9, a10⟩
  · exact fun a k h v hv e => (ht a k _ h).mpr (Or.inl (a6 a k h v hv e))
  · intro a k r' h z
    rcases (ht a k r' h).mp z with z | ⟨rfl, rfl, rfl⟩
    · obtain ⟨b1, b2⟩ := a7 a k r' h z
      refine ⟨b1, fun a' k' h' y => ?_⟩
      rcases (ht a' k' r' h').mp y with y | ⟨rfl, rfl, rfl⟩
      · exact b2 a' k' h' y
      · exact (hb1 a k h z).symm
    · refine ⟨hb2, fun a' k' h' y => ?_⟩
      rcases (ht a' k' r' h').mp y with y | ⟨y, _, _⟩
      · exact hb1 a' k' h' y
      · exact y
/-- a running number is in no other set that something is seen with -/
theorem mh_top (hJ : mh_J Cs Rs U ro mk en sl sn nu tt ov) {t l : Nat} (hs : sl t l) (htop : ∀ k, sl t k → k ≤ l) :
    ¬ Cs (nu t l) ∧ ∀ a j, sl a j → ¬ (a = t ∧ j = l) → ¬ mh_VS sn nu a j (nu t l) := by
  obtain ⟨a0, a1, a2, a3, a4, -⟩ := hJ
  have c : ¬ Cs (nu t l) := fun z => (a0 _ z).2 ((a1 _).mpr ⟨t, l, hs, rfl⟩)
  refine ⟨c, fun a j h hne => ?_⟩
  rintro (z | ⟨k, hk, z⟩)
  · exact c (a4 a ((a2 a j h).2 0 (Nat.zero_le j)) _ z)
  · have e := a3 a k t l ((a2 a j h).2 k hk) hs z
    obtain ⟨rfl, rfl⟩ := e
    have := htop j h
    exact hne ⟨rfl, by omega⟩
/-- the version that transaction t sees is ended by t -/
theorem mh_T_end {t l x : Nat} (hJ : mh_J Cs Rs U ro mk en sl sn nu tt ov) (hs : sl t l) (htop : ∀ k, sl t k → k ≤ l) (hx : mh_Q U mk en (mh_VS sn nu t l) x) (htt : tt t l (ro x))
    (he1 : en' x = nu t l) (he2 : ∀ y, y ≠ x → en' y = en y) :
    mh_J Cs Rs U ro mk en' sl sn nu tt ov ∧ (∀ v, mh_Q U mk en' Cs v ↔ mh_Q U mk en Cs v) ∧ (∀ a j, sl a j → ¬ (a = t ∧ j = l) → ∀ v, mh_Q U mk en' (mh_VS sn nu a j) v ↔ mh_Q U mk en (mh_VS sn nu a j) v) ∧
      (∀ v, mh_Q U mk en' (mh_VS sn nu t l) v ↔ mh_Q U mk en (mh_VS sn nu t l) v ∧ v ≠ x) := by
  obtain ⟨nC, nV⟩ := mh_top hJ hs htop
  obtain ⟨a0, a1, a2, a3, a4, a5, a6, a7, a8, a9, a10⟩ := hJ
  obtain ⟨hU, hm, he⟩ := hx
  have hs0 : sl t 0 := (a2 t l hs).2 0 (Nat.zero_le l)
  have eC : ¬ Cs (en x) := by
    intro z
    by_cases q : sn t (en x)
    · exact he (Or.inl q)
    · exact (a7 t l _ hs htt).1 ((a5 t hs0 x hU).2 z q)
  have eR : ∀ a k, sl a k → nu a k ≠ en x := by
    intro a k h z
    have e := (a7 t l _ hs htt).2 a k h (a6 a k h x hU (Or.inr z.symm))
    subst e
    exact he (Or.inr ⟨k, htop k h, z⟩)
  have eV : ∀ a j, sl a j → ¬ mh_VS sn nu a j (en x) := by
    intro a j h
    rintro (z | ⟨k, hk, z⟩)
    · exact eC (a4 a ((a2 a j h).2 0 (Nat.zero_le j)) _ z)
    · exact eR a k ((a2 a j h).2 k hk) z
  have gen : ∀ S : Int32 → Prop, ¬ S (en x) → ¬ S (nu t l) → ∀ v, mh_Q U mk en' S v ↔ mh_Q U mk en S v := by
    intro S s1 s2 v
    by_cases q : v = x
    · subst q
      exact ⟨fun ⟨u1, u2, _⟩ => ⟨u1, u2, s1⟩, fun ⟨u1, u2, _⟩ => ⟨u1, u2, by rw [he1]; exact s2⟩⟩
    · unfold mh_Q
      rw [he2 v q]
  have qC := gen Cs eC nC
  have qV : ∀ a j, sl a j → ¬ (a = t ∧ j = l) → ∀ v, mh_Q U mk en' (mh_VS sn nu a j) v ↔ mh_Q U mk en (mh_VS sn nu a j) v := fun a j h hne => gen _ (eV a j h) (nV a j h hne)
  have qT : ∀ v, mh_Q U mk en' (mh_VS sn nu t l) v ↔ mh_Q U mk en (mh_VS sn nu t l) v ∧ v ≠ x := by
    intro v
    by_cases q : v = x
    · subst q
      exact ⟨fun z => absurd (by rw [he1]; exact Or.inr ⟨l, Nat.le_refl l, rfl⟩) z.2.2, fun z => absurd rfl z.2⟩
    · unfold mh_Q
      rw [he2 v q]
      exact ⟨fun z => ⟨z, q⟩, fun z => z.1⟩
  refine ⟨⟨a0, a1, a2, a3, a4, ?_, ?_, a7, ?_, ?_, ?_⟩, qC, qV, qT⟩
  · intro a h v hv
    refine ⟨(a5 a h v hv).1, fun z y => ?_⟩
    by_cases q : v = x
    · subst q
      rw [he1] at z
      exact absurd z nC
    · rw [he2 v q] at z y
      exact (a5 a h v hv).2 z y
  · intro a k h v hv e
    by_cases q : v = x
    · subst q
      rcases e with e | e
      · exact a6 a k h v hv (Or.inl e)
      · rw [he1] at e
        obtain ⟨rfl, rfl⟩ := a3 t l a k hs h e
        exact htt
    · rw [he2 v q] at e
      exact a6 a k h v hv e
  · intro v hv a k h e
    by_cases q : v = x
    · subst q
      rw [he1]
      refine ⟨nC, fun a' k' h' z => ?_⟩
      have e1 := (a3 t l a' k' hs h' z).1
      rw [← e1]
      rcases hm with hm | hm | ⟨k2, hk2, hm⟩
      · exact absurd (e.symm.trans hm) (a2 a k h).1
      · exact absurd ((a1 _).mpr ⟨a, k, h, e.symm⟩) (a0 _ (a4 t hs0 _ hm)).2
      · exact (a3 t k2 a k ((a2 t l hs).2 k2 hk2) h (hm.trans e)).1
    · rw [he2 v q]
      exact a8 v hv a k h e
  · exact mh_un_mono a9 (fun v h => (qC v).mp h) (fun _ _ => rfl)
  · intro a j h
    by_cases q : a = t ∧ j = l
    · obtain ⟨rfl, rfl⟩ := q
      exact mh_un_mono (a10 a j h) (fun v h => ((qT v).mp h).1) (fun _ _ => rfl)
    · exact mh_un_mono (a10 a j h) (fun v z => (qV a j h q v).mp z) (fun _ _ => rfl)
/-- transaction t makes a version of row r -/
theorem mh_T_make {t l w : Nat} {r : Int32} (hJ : mh_J Cs Rs U ro mk en sl sn nu tt ov) (hs : sl t l) (htop : ∀ k, sl t k → k ≤ l) (htt : tt t l r)
    (hno : ∀ y, mh_Q U mk en (mh_VS sn nu t l) y → ro y ≠ r) (hw : ¬ U w) (hU : ∀ y, U' y ↔ U y ∨ y = w)
    (h1 : ro' w = r) (h2 : mk' w = nu t l) (h3 : en' w = 0) (h4 : ∀ y, y ≠ w → ro' y = ro y ∧ mk' y = mk y ∧ en' y = en y) :
    mh_J Cs Rs U' ro' mk' en' sl sn nu tt ov ∧ (∀ v, mh_Q U' mk' en' Cs v ↔ mh_Q U mk en Cs v) ∧ (∀ a j, sl a j → ¬ (a = t ∧ j = l) → ∀ v, mh_Q U' mk' en' (mh_VS sn nu a j) v ↔ mh_Q U mk en (mh_VS sn nu a j) v) ∧
      mh_Q U' mk' en' (mh_VS sn nu t l) w := by
  obtain ⟨nC, nV⟩ := mh_top hJ hs htop
  obtain ⟨a0, a1, a2, a3, a4, a5, a6, a7, a8, a9, a10⟩ := hJ
  have hs0 : sl t 0 := (a2 t l hs).2 0 (Nat.zero_le l)
  have n0 : nu t l ≠ 0 := (a2 t l hs).1
  have old : ∀ v, U' v → v ≠ w → U v := fun v h q => ((hU v).mp h).resolve_right q
  have gen : ∀ S : Int32 → Prop, ¬ S (nu t l) → ∀ v, mh_Q U' mk' en' S v ↔ mh_Q U mk en S v := by
    intro S s v
    by_cases q : v = w
    · subst q
      refine ⟨fun z => ?_, fun z => absurd z.1 hw⟩
      obtain ⟨_, z, _⟩ := z
      rw [h2] at z
      rcases z with z | z
      · exact absurd z n0
      · exact absurd z s
    · obtain ⟨_, e2, e3⟩ := h4 v q
      unfold mh_Q
      rw [e2, e3, hU]
      exact ⟨fun z => ⟨z.1.resolve_right q, z.2⟩, fun z => ⟨Or.inl z.1, z.2⟩⟩
  have qC := gen Cs nC
  have qV : ∀ a j, sl a j → ¬ (a = t ∧ j = l) → ∀ v, mh_Q U' mk' en' (mh_VS sn nu a j) v ↔ mh_Q U mk en (mh_VS sn nu a j) v := fun a j h hne => gen _ (nV a j h hne)
  have z0 : ∀ a j, sl a j → ¬ mh_VS sn nu a j 0 := by
    intro a j h
    rintro (z | ⟨k, hk, z⟩)
    · exact (a0 _ (a4 a ((a2 a j h).2 0 (Nat.zero_le j)) _ z)).1 rfl
    · exact (a2 a k ((a2 a j h).2 k hk)).1 z
  have qw : mh_Q U' mk' en' (mh_VS sn nu t l) w := ⟨(hU w).mpr (Or.inr rfl), Or.inr (by rw [h2]; exact Or.inr ⟨l, Nat.le_refl l, rfl⟩), by rw [h3]; exact z0 t l hs⟩
  have hr : ∀ S : Int32 → Prop, ∀ v, mh_Q U mk en S v → ro' v = ro v := fun S v h => (h4 v (fun z => hw (z ▸ h.1))).1
  refine ⟨⟨a0, a1, a2, a3, a4, ?_, ?_, a7, ?_, ?_, ?_⟩, qC, qV, qw⟩
  · intro a h v hv
    by_cases q : v = w
    · subst q
      rw [h2, h3]
      exact ⟨fun z => absurd z nC, fun z => absurd rfl (a0 _ z).1⟩
    · obtain ⟨e1, e2, e3⟩ := h4 v q
      rw [e1, e2, e3]
      exact a5 a h v (old v hv q)
  · intro a k h v hv e
    by_cases q : v = w
    · subst q
      rw [h2, h3] at e
      rcases e with e | e
      · obtain ⟨rfl, rfl⟩ := a3 t l a k hs h e
        rw [h1]
        exact htt
      · exact absurd e.symm (a2 a k h).1
    · obtain ⟨e1, e2, e3⟩ := h4 v q
      rw [e2, e3] at e
      rw [e1]
      exact a6 a k h v (old v hv q) e
  · intro v hv a k h e
    by_cases q : v = w
    · subst q
      rw [h3]
      exact ⟨fun z => absurd rfl (a0 _ z).1, fun a' k' h' z => absurd z.symm (a2 a' k' h').1⟩
    · obtain ⟨e1, e2, e3⟩ := h4 v q
      rw [e2] at e
      rw [e3]
      exact a8 v (old v hv q) a k h e
  · exact mh_un_mono a9 (fun v h => (qC v).mp h) (fun v h => hr _ v ((qC v).mp h))
  · intro a j h
    by_cases q : a = t ∧ j = l
    · obtain ⟨rfl, rfl⟩ := q
      have back : ∀ v, v ≠ w → mh_Q U' mk' en' (mh_VS sn nu a j) v → mh_Q U mk en (mh_VS sn nu a j) v := by
        rintro v q ⟨u1, u2, u3⟩
        obtain ⟨e1, e2, e3⟩ := h4 v q
        rw [e2] at u2
        rw [e3] at u3
        exact ⟨old v u1 q, u2, u3⟩
      intro v v' hv hv' e
      by_cases q : v = w
      · by_cases q' : v' = w
        · rw [q, q']
        · rw [q, h1, (h4 v' q').1] at e
          exact absurd e.symm (hno v' (back v' q' hv'))
      · by_cases q' : v' = w
        · rw [q', h1, (h4 v q).1] at e
          exact absurd e (hno v (back v q hv))
        · rw [(h4 v q).1, (h4 v' q').1] at e
          exact a10 a j h v v' (back v q hv) (back v' q' hv') e
    · exact mh_un_mono (a10 a j h) (fun v z => (qV a j h q v).mp z) (fun v z => hr _ v ((qV a j h q v).mp z))
/-- a maker's number is kept, or set to 0 (all see it), or replaced by one that the same transactions see -/
def mh_Em (Cs : Int32 → Prop) (sl : Nat → Nat → Prop) (sn : Nat → Int32 → Prop) (n n' : Int32) : Prop :=
  (n' = n ∧ ¬ Cs n) ∨ (Cs n ∧ n' = 0 ∧ ∀ t, sl t 0 → sn t n) ∨ (Cs n ∧ Cs n' ∧ ∀ t, sl t 0 → (sn t n ↔ sn t n'))
/-- an ender's number is kept, or set to 0 (what ended it is over), or replaced -/
def mh_Ee (Cs Rs : Int32 → Prop) (sl : Nat → Nat → Prop) (sn : Nat → Int32 → Prop) (n n' : Int32) : Prop :=
  (n' = n ∧ ¬ Cs n) ∨ (¬ Cs n ∧ ¬ Rs n ∧ n' = 0) ∨ (Cs n ∧ Cs n' ∧ ∀ t, sl t 0 → (sn t n ↔ sn t n'))
/-- tidying -/
theorem mh_T_ren (hJ : mh_J Cs Rs U ro mk en sl sn nu tt ov) (hU : ∀ v, U' v → U v) (hm : ∀ v, U' v → mh_Em Cs sl sn (mk v) (mk' v)) (he : ∀ v, U' v → mh_Ee Cs Rs sl sn (en v) (en' v))
    (hrem : ∀ v, U v → ¬ U' v → ¬ mh_Q U mk en Cs v ∧ ∀ t j, sl t j → ¬ mh_Q U mk en (mh_VS sn nu t j) v)
    (hC : ∀ n, Cs' n → Cs n) (hS : ∀ t, sl t 0 → ∀ n, sn' t n → sn t n ∧ Cs' n)
    (hC2 : ∀ v, U' v → (Cs (mk' v) → Cs' (mk' v)) ∧ (Cs (en' v) → Cs' (en' v)))
    (hS2 : ∀ t, sl t 0 → ∀ v, U' v → (sn t (mk' v) → sn' t (mk' v)) ∧ (sn t (en' v) → sn' t (en' v))) :
    mh_J Cs' Rs U' ro mk' en' sl sn' nu tt ov ∧ (∀ v, mh_Q U' mk' en' Cs' v ↔ mh_Q U mk en Cs v) ∧ (∀ a j, sl a j → ∀ v, mh_Q U' mk' en' (mh_VS sn' nu a j) v ↔ mh_Q U mk en (mh_VS sn nu a j) v) := by
  obtain ⟨a0, a1, a2, a3, a4, a5, a6, a7, a8, a9, a10⟩ := hJ
  have c0 : ¬ Cs 0 := fun z => (a0 0 z).1 rfl
  have cR : ∀ a k, sl a k → ¬ Cs (nu a k) := fun a k h z => (a0 _ z).2 ((a1 _).mpr ⟨a, k, h, rfl⟩)
  have mC : ∀ v, U' v → ((mk' v = 0 ∨ Cs' (mk' v)) ↔ (mk v = 0 ∨ Cs (mk v))) := by
    intro v hv
    rcases hm v hv with ⟨e, h⟩ | ⟨h, e, _⟩ | ⟨h, h', _⟩
    · rw [e]
      exact ⟨fun z => z.imp id (hC _), fun z => z.imp id (fun y => absurd y h)⟩
    · exact ⟨fun _ => Or.inr h, fun _ => Or.inl e⟩
    · exact ⟨fun _ => Or.inr h, fun _ => Or.inr ((hC2 v hv).1 h')⟩
  have eC : ∀ v, U' v → (Cs' (en' v) ↔ Cs (en v)) := by
    intro v hv
    rcases he v hv with ⟨e, h⟩ | ⟨h, _, e⟩ | ⟨h, h', _⟩
    · rw [e]
      exact ⟨hC _, fun y => absurd y h⟩
    · rw [e]
      exact ⟨fun z => absurd (hC _ z) c0, fun y => absurd y h⟩
    · exact ⟨fun _ => h, fun _ => (hC2 v hv).2 h'⟩
  have mV : ∀ a j, sl a j → ∀ v, U' v → ((mk' v = 0 ∨ mh_VS sn' nu a j (mk' v)) ↔ (mk v = 0 ∨ mh_VS sn nu a j (mk v))) := by
    intro a j hs v hv
    have hs0 := (a2 a j hs).2 0 (Nat.zero_le j)
    rcases hm v hv with ⟨e, h⟩ | ⟨h, e, h2⟩ | ⟨h, h', h2⟩
    · rw [e]
      constructor
      · rintro (z | z | z)
        · exact Or.inl z
        · exact Or.inr (Or.inl (hS a hs0 _ z).1)
        · exact Or.inr (Or.inr z)
      · rintro (z | z | z)
        · exact Or.inl z
        · exact absurd (a4 a hs0 _ z) h
        · exact Or.inr (Or.inr z)
    · exact ⟨fun _ => Or.inr (Or.inl (h2 a hs0)), fun _ => Or.inl e⟩
    · constructor
      · rintro (z | z | ⟨k, hk, z⟩)
        · exact absurd (z ▸ h') c0
        · exact Or.inr (Or.inl ((h2 a hs0).mpr (hS a hs0 _ z).1))
        · exact absurd (z ▸ h') (cR a k ((a2 a j hs).2 k hk))
      · rintro (z | z | ⟨k, hk, z⟩)
        · exact absurd (z ▸ h) c0
        · exact Or.inr (Or.inl ((hS2 a hs0 v hv).1 ((h2 a hs0).mp z)))
        · exact absurd (z ▸ h) (cR a k ((a2 a j hs).2 k hk))
  have eV : ∀ a j, sl a j → ∀ v, U' v → (mh_VS sn' nu a j (en' v) ↔ mh_VS sn nu a j (en v)) := by
    intro a j hs v hv
    have hs0 := (a2 a j hs).2 0 (Nat.zero_le j)
    rcases he v hv with ⟨e, h⟩ | ⟨h, h1, e⟩ | ⟨h, h', h2⟩
    · rw [e]
      constructor
      · rintro (z | z)
        · exact Or.inl (hS a hs0 _ z).1
        · exact Or.inr z
      · rintro (z | z)
        · exact absurd (a4 a hs0 _ z) h
        · exact Or.inr z
    · rw [e]
      constructor
      · rintro (z | ⟨k, hk, z⟩)
        · exact absurd (hC _ (hS a hs0 _ z).2) c0
        · exact absurd z (a2 a k ((a2 a j hs).2 k hk)).1
      · rintro (z | ⟨k, hk, z⟩)
        · exact absurd (a4 a hs0 _ z) h
        · exact absurd ((a1 _).mpr ⟨a, k, (a2 a j hs).2 k hk, z⟩) h1
    · constructor
      · rintro (z | ⟨k, hk, z⟩)
        · exact Or.inl ((h2 a hs0).mpr (hS a hs0 _ z).1)
        · exact absurd (z ▸ h') (cR a k ((a2 a j hs).2 k hk))
      · rintro (z | ⟨k, hk, z⟩)
        · exact Or.inl ((hS2 a hs0 v hv).2 ((h2 a hs0).mp z))
        · exact absurd (z ▸ h) (cR a k ((a2 a j hs).2 k hk))
  have qC : ∀ v, mh_Q U' mk' en' Cs' v ↔ mh_Q U mk en Cs v := by
    intro v
    by_cases q : U' v
    · unfold mh_Q
      rw [mC v q, eC v q]
      exact ⟨fun z => ⟨hU v q, z.2⟩, fun z => ⟨q, z.2⟩⟩
    · exact ⟨fun z => absurd z.1 q, fun z => absurd z (hrem v z.1 q).1⟩
  have qV : ∀ a j, sl a j → ∀ v, mh_Q U' mk' en' (mh_VS sn' nu a j) v ↔ mh_Q U mk en (mh_VS sn nu a j) v := by
    intro a j hs v
    by_cases q : U' v
    · unfold mh_Q
      rw [mV a j hs v q, eV a j hs v q]
      exact ⟨fun z => ⟨hU v q, z.2⟩, fun z => ⟨q, z.2⟩⟩
    · exact ⟨fun z => absurd z.1 q, fun z => absurd z ((hrem v z.1 q).2 a j hs)⟩
  have eN : ∀ a k v, sl a k → U' v → en' v = nu a k → en v = nu a k := by
    intro a k v h hv e
    rcases he v hv with ⟨e1, _⟩ | ⟨_, _, e1⟩ | ⟨_, h', _⟩
    · rw [← e1, e]
    · exact absurd (e.symm.trans e1) (a2 a k h).1
    · exact absurd (e ▸ h') (cR a k h)
  have mN : ∀ a k v, sl a k → U' v → mk' v = nu a k → mk v = nu a k := by
    intro a k v h hv e
    rcases hm v hv with ⟨e1, _⟩ | ⟨_, e1, _⟩ | ⟨_, h', _⟩
    · rw [← e1, e]
    · exact absurd (e.symm.trans e1) (a2 a k h).1
    · exact absurd (e ▸ h') (cR a k h)
  refine ⟨⟨fun n h => a0 n (hC n h), a1, a2, a3, fun t h n hn => (hS t h n hn).2, ?_, ?_, a7, ?_, ?_, ?_⟩, qC, qV⟩
  · intro t h v hv
    obtain ⟨b1, b2⟩ := a5 t h v (hU v hv)
    constructor
    · intro z y
      rcases hm v hv with ⟨e, h1⟩ | ⟨_, e, _⟩ | ⟨h1, h', h2⟩
      · exact absurd (e ▸ hC _ z) h1
      · exact absurd (e ▸ hC _ z) c0
      · exact b1 h1 (fun x => y ((hS2 t h v hv).1 ((h2 t h).mp x)))
    · intro z y
      rcases he v hv with ⟨e, h1⟩ | ⟨_, _, e⟩ | ⟨h1, h', h2⟩
      · exact absurd (e ▸ hC _ z) h1
      · exact absurd (e ▸ hC _ z) c0
      · exact b2 h1 (fun x => y ((hS2 t h v hv).2 ((h2 t h).mp x)))
  · intro a k h v hv e
    exact a6 a k h v (hU v hv) (e.imp (mN a k v h hv) (eN a k v h hv))
  · intro v hv a k h e
    obtain ⟨b1, b2⟩ := a8 v (hU v hv) a k h (mN a k v h hv e)
    exact ⟨fun z => b1 ((eC v hv).mp z), fun a' k' h' z => b2 a' k' h' (eN a' k' v h' hv z)⟩
  · exact mh_un_mono a9 (fun v h => (qC v).mp h) (fun _ _ => rfl)
  · exact fun a j h => mh_un_mono (a10 a j h) (fun v z => (qV a j h v).mp z) (fun _ _ => rfl)
end
end
section
/-! loops, look-ups, counts -/
theorem mh_lp {σ ρ : Type} (W : (ρ → Prop) → Nat → Nat → σ → Prop) (N : Nat) (P : Nat → σ → Prop) (Out : ρ → Prop)
    (step : ∀ i s, i < N → P i s → (∃ r, Out r ∧ ∀ post n, post r → W post (n + 1) i s) ∨ (∃ s', P (i + 1) s' ∧ ∀ post n, W post n (i + 1) s' → W post (n + 1) i s))
    (fin : ∀ s, P N s → ∃ r, Out r ∧ ∀ post n, post r → W post (n + 1) N s) :
    ∀ d i s, i + d = N → P i s → ∃ r, Out r ∧ ∀ post : ρ → Prop, post r → ∃ n, W post n i s := by
  have key : ∀ d i s, i + d = N → P i s → ∃ r, Out r ∧ ∀ post : ρ → Prop, post r → W post (d + 1) i s := by
    intro d
    induction d with
    | zero =>
      intro i s hi hp
      have e : i = N := by omega
      subst e
      obtain ⟨r, h, H⟩ := fin s hp
      exact ⟨r, h, fun post hpo => H post 0 hpo⟩
    | succ d ih =>
      intro i s hi hp
      rcases step i s (by omega) hp with ⟨r, h, H⟩ | ⟨s', hp', H⟩
      · exact ⟨r, h, fun post hpo => H post (d + 1) hpo⟩
      · obtain ⟨r, h, H2⟩ := ih (i + 1) s' (by omega) hp'
        exact ⟨r, h, fun post hpo => H post (d + 1) (H2 post hpo)⟩
  intro d i s hi hp
  obtain ⟨r, h, H⟩ := key d i s hi hp
  exact ⟨r, h, fun post hpo => ⟨d + 1, H post hpo⟩⟩
theorem mh_lp0 {σ ρ : Type} (W : (ρ → Prop) → Nat → Nat → σ → Prop) (N : Nat) (P : Nat → σ → Prop) (Out : ρ → Prop) (s : σ) (h0 : P 0 s)
    (step : ∀ i s, i < N → P i s → (∃ r, Out r ∧ ∀ post n, post r → W post (n + 1) i s) ∨ (∃ s', P (i + 1) s' ∧ ∀ post n, W post n (i + 1) s' → W post (n + 1) i s))
    (fin : ∀ s, P N s → ∃ r, Out r ∧ ∀ post n, post r → W post (n + 1) N s) :
    ∃ r, Out r ∧ ∀ post : ρ → Prop, post r → ∃ n, W post n 0 s := mh_lp W N P Out step fin N 0 s (by omega) h0
/-- x is the first version of row r that q holds of, or -1 -/
def mh_LK (ro : Nat → Int32) (q : Nat → Prop) (r x : Int32) : Prop :=
  (x = -1 ∧ ∀ v, q v → ro v ≠ r) ∨ ∃ v, v < 96 ∧ x = nI v ∧ q v ∧ ro v = r ∧ ∀ w, w < v → q w → ro w ≠ r
theorem mh_LK_eq {ro ro' : Nat → Int32} {q q' : Nat → Prop} {r x x' : Int32} (h : mh_LK ro q r x) (h' : mh_LK ro' q' r x') (hq : ∀ v, q' v ↔ q v) (hr : ∀ v, q v → ro' v = ro v) : x' = x := by
  rcases h with ⟨e, h⟩ | ⟨v, hv, e, h1, h2, h3⟩
  · rcases h' with ⟨e', h'⟩ | ⟨v', hv', e', h1', h2', h3'⟩
    · rw [e, e']
    · exact absurd ((hr v' ((hq v').mp h1')).symm.trans h2') (h v' ((hq v').mp h1'))
  · rcases h' with ⟨e', h'⟩ | ⟨v', hv', e', h1', h2', h3'⟩
    · exact absurd ((hr v h1).trans h2) (h' v ((hq v).mpr h1))
    · rw [e, e']
      rcases Nat.lt_trichotomy v v' with z | z | z
      · exact absurd ((hr v h1).trans h2) (h3' v z ((hq v).mpr h1))
      · rw [z]
      · exact absurd ((hr v' ((hq v').mp h1')).symm.trans h2') (h3 v' z ((hq v').mp h1'))
theorem mh_LK_neg {ro : Nat → Int32} {q : Nat → Prop} {r x : Int32} (h : mh_LK ro q r x) (hx : ¬ 0 ≤ x) : x = -1 ∧ ∀ v, q v → ro v ≠ r := by
  rcases h with h | ⟨v, hv, e, _⟩
  · exact h
  · exact absurd (by rw [e]; exact nI_pos' (by omega)) hx
theorem mh_LK_pos {ro : Nat → Int32} {q : Nat → Prop} {r x : Int32} (h : mh_LK ro q r x) (hx : 0 ≤ x) : ∃ v, v < 96 ∧ x = nI v ∧ q v ∧ ro v = r ∧ ∀ w, w < v → q w → ro w ≠ r := by
  rcases h with ⟨e, _⟩ | h
  · exact absurd hx (by rw [e]; decide)
  · exact h
/-- how many rows have a version -/
def mh_ct (X : Nat → Int32) : Nat → Nat
  | 0 => 0
  | n + 1 => mh_ct X n + if 0 ≤ X n then 1 else 0
theorem mh_ct_congr {X Y : Nat → Int32} : ∀ n, (∀ k, k < n → X k = Y k) → mh_ct X n = mh_ct Y n := by
  intro n
  induction n with
  | zero => intro _; rfl
  | succ n ih =>
    intro h
    unfold mh_ct
    rw [ih (fun k hk => h k (by omega)), h n (by omega)]
theorem mh_ct_le (X : Nat → Int32) : ∀ n, mh_ct X n ≤ n := by
  intro n
  induction n with
  | zero => exact Nat.le_refl 0
  | succ n ih =>
    unfold mh_ct
    split <;> omega
/-- how many versions are in use -/
def mh_cnt (us : Nat → Int32) : Nat → Nat
  | 0 => 0
  | n + 1 => mh_cnt us n + if us n = 0 then 0 else 1
theorem mh_cnt_all {us : Nat → Int32} : ∀ n, (∀ v, v < n → us v ≠ 0) → mh_cnt us n = n := by
  intro n
  induction n with
  | zero => intro _; rfl
  | succ n ih =>
    intro h
    unfold mh_cnt
    rw [ih (fun v hv => h v (by omega)), if_neg (h n (by omega))]
theorem mh_cnt_free {us : Nat → Int32} {n : Nat} (h : mh_cnt us n < n) : ∃ v, v < n ∧ us v = 0 := by
  apply Classical.byContradiction
  intro z
  have := mh_cnt_all (us := us) n (fun v hv e => z ⟨v, hv, e⟩)
  omega
theorem mh_cnt_le {us us' : Nat → Int32} : ∀ n, (∀ v, v < n → us' v ≠ 0 → us v ≠ 0) → mh_cnt us' n ≤ mh_cnt us n := by
  intro n
  induction n with
  | zero => intro _; exact Nat.le_refl 0
  | succ n ih =>
    intro h
    have := ih (fun v hv => h v (by omega))
    unfold mh_cnt
    by_cases e : us' n = 0
    · rw [if_pos e]
      omega
    · rw [if_neg e, if_neg (h n (by omega) e)]
      omega
theorem mh_cnt_upd (us : Nat → Int32) (w : Nat) (x : Int32) : ∀ n, mh_cnt (upd us w x) n ≤ mh_cnt us n + if w < n then 1 else 0 := by
  intro n
  induction n with
  | zero => exact Nat.zero_le _
  | succ n ih =>
    unfold mh_cnt
    by_cases e : n = w
    · subst e
      rw [if_neg (Nat.lt_irrefl n)] at ih
      rw [if_pos (Nat.lt_succ_self n)]
      split <;> split <;> omega
    · rw [pk_un e]
      by_cases q : w < n
      · rw [if_pos q] at ih
        rw [if_pos (show w < n + 1 by omega)]
        split <;> omega
      · rw [if_neg q] at ih
        rw [if_neg (show ¬ w < n + 1 by omega)]
        split <;> omega
/-- m values can't cover more than m numbers -/
theorem mh_pig : ∀ (m N : Nat) (f : Nat → Nat), (∀ k, k < N → ∃ i, i < m ∧ f i = k) → N ≤ m := by
  intro m
  induction m with
  | zero =>
    intro N f h
    rcases Nat.eq_zero_or_pos N with z | z
    · omega
    · obtain ⟨i, hi, _⟩ := h 0 z
      omega
  | succ m ih =>
    intro N f h
    rcases Nat.eq_zero_or_pos N with z | z
    · omega
    · have := ih (N - 1) (fun i => if f i = N - 1 then f m else f i) (by
        intro k hk
        by_cases q : k = f m
        · obtain ⟨i, hi, e⟩ := h (N - 1) (by omega)
          by_cases qi : i = m
          · subst qi
            omega
          · exact ⟨i, by omega, by show (if f i = N - 1 then f m else f i) = k; rw [if_pos e, q]⟩
        · obtain ⟨i, hi, e⟩ := h k (by omega)
          by_cases qi : i = m
          · subst qi
            exact absurd e.symm q
          · exact ⟨i, by omega, by show (if f i = N - 1 then f m else f i) = k; rw [if_neg (by omega), e]⟩)
      omega
/-- the rows changed by a transaction -/
def mh_cb (f : Nat → Int32) : Nat → Int32
  | 0 => 0
  | n + 1 => mh_cb f n ||| f n
theorem mh_cb_tr (f : Nat → Int32) (r : Int32) : ∀ n, mh_tr (mh_cb f n) r ↔ ∃ k, k < n ∧ mh_tr (f k) r := by
  intro n
  induction n with
  | zero => exact ⟨fun z => absurd z (mh_tr_0 r), fun ⟨k, hk, _⟩ => absurd hk (by omega)⟩
  | succ n ih =>
    unfold mh_cb
    rw [mh_tr_or, ih]
    constructor
    · rintro (⟨k, hk, h⟩ | h)
      · exact ⟨k, by omega, h⟩
      · exact ⟨n, by omega, h⟩
    · rintro ⟨k, hk, h⟩
      by_cases q : k = n
      · subst q
        exact Or.inr h
      · exact Or.inl ⟨k, by omega, h⟩
theorem mh_cb_nn (f : Nat → Int32) : ∀ n, (∀ k, k < n → 0 ≤ f k) → 0 ≤ mh_cb f n := by
  intro n
  induction n with
  | zero => intro _; exact Int32.le_refl 0
  | succ n ih =>
    intro h
    exact mh_or_nn (ih (fun k hk => h k (by omega))) (h n (by omega))
theorem mh_cb_congr {f g : Nat → Int32} : ∀ n, (∀ k, k < n → f k = g k) → mh_cb f n = mh_cb g n := by
  intro n
  induction n with
  | zero => intro _; rfl
  | succ n ih =>
    intro h
    unfold mh_cb
    rw [ih (fun k hk => h k (by omega)), h n (by omega)]
def mh_so (x : Int32) : Nat → Int32
  | 0 => 0
  | n + 1 => mh_so x n + ((x >>> (nI n &&& 31)) &&& 1)
theorem mh_so_1 : ∀ r, r < 8 → mh_so (0 ||| (0 ||| ((1 : Int32) <<< (nI r &&& 31)))) 8 = 1 := by decide +kernel
theorem mh_so_0 : mh_so (0 ||| 0) 8 = 0 := by decide +kernel
/-! the state as the pure picture has it -/
def mh_U (us : Nat → Int32) (v : Nat) : Prop := v < 96 ∧ us v ≠ 0
def mh_sl (op lv : Nat → Int32) (t k : Nat) : Prop := t < 4 ∧ op t ≠ 0 ∧ k ≤ (lv t).toNatClampNeg
def mh_nu (nu : Nat → Int32) (t k : Nat) : Int32 := nu (t * 4 + k)
def mh_sn (sn : Nat → Int64) (t : Nat) (n : Int32) : Prop := mh_st (sn t) n
def mh_tt (tc : Nat → Int32) (t k : Nat) (r : Int32) : Prop := mh_tr (tc (t * 4 + k)) r
def mh_ov (ov : Nat → Int32) (t : Nat) (r : Int32) : Prop := mh_tr (ov t) r
/-- used versions: numbers and rows in range -/
def mh_K1 (us ro mk en : Nat → Int32) : Prop := ∀ v, mh_U us v → mh_ok (mk v) ∧ mh_ok (en v) ∧ mh_rk (ro v)
/-- running transactions: levels, numbers and changed rows in range -/
def mh_K2 (op lv nu tc : Nat → Int32) : Prop := ∀ t, t < 4 → op t ≠ 0 → ∃ l, l < 4 ∧ lv t = nI l ∧ ∀ k, k ≤ l → mh_ok (nu (t * 4 + k)) ∧ nu (t * 4 + k) ≠ 0 ∧ 0 ≤ tc (t * 4 + k)
/-- the invariant; c bounds the versions in use -/
def mh_I (c : Nat) (C R : Int64) (us ro mk en op : Nat → Int32) (sn : Nat → Int64) (lv nu tc ov : Nat → Int32) : Prop :=
  mh_J (mh_st C) (mh_st R) (mh_U us) ro mk en (mh_sl op lv) (mh_sn sn) (mh_nu nu) (mh_tt tc) (mh_ov ov) ∧ mh_K1 us ro mk en ∧ mh_K2 op lv nu tc ∧ mh_cnt us 96 ≤ c
theorem mh_sl_iff {op lv : Nat → Int32} {t l : Nat} (ht : t < 4) (ho : op t ≠ 0) (hl : lv t = nI l) (h4 : l < 4) (k : Nat) : mh_sl op lv t k ↔ k ≤ l := by
  unfold mh_sl
  rw [hl, nI_clamp (by omega)]
  exact ⟨fun z => z.2.2, fun z => ⟨ht, ho, z⟩⟩
theorem mh_idx (t k : Nat) : nI t * 4 + nI k = nI (t * 4 + k) := by
  rw [show (4 : Int32) = nI 4 from rfl, pk_mul, nI_add]
theorem mh_idx0 (t : Nat) : nI t * 4 = nI (t * 4) := by
  rw [show (4 : Int32) = nI 4 from rfl, pk_mul]
end
section
/-! walks: the small methods -/
section
variable {C R : Int64} {us ro vl mk en op : Nat → Int32} {sn : Nat → Int64} {lv nu tc ov al : Nat → Int32}
theorem mh_in_t {post : Int32 → Prop} {S : Int64} {n : Int32} (hn : mh_ok n) (h : n = 0 ∨ mh_st S n) (hp : post 1) : wpX_in post (C, R, us, ro, vl, mk, en, op, sn, lv, nu, tc, ov, al) S n :=
  br_c (fun _ => hp) (fun z => br_t ((mh_st_mb hn z).mp (h.resolve_left z)) hp)
theorem mh_in_f {post : Int32 → Prop} {S : Int64} {n : Int32} (hn : mh_ok n) (h : ¬ (n = 0 ∨ mh_st S n)) (hp : post 0) : wpX_in post (C, R, us, ro, vl, mk, en, op, sn, lv, nu, tc, ov, al) S n :=
  br_f (fun z => h (Or.inl z)) (br_f (fun z => h (Or.inr ((mh_st_mb hn (fun y => h (Or.inl y))).mpr z))) hp)
theorem mh_sees_t {post : Int32 → Prop} {S : Int64} {v : Nat} (hv : v < 96) (hm : mh_ok (mk v)) (he : mh_ok (en v)) (h : (mk v = 0 ∨ mh_st S (mk v)) ∧ ¬ mh_st S (en v)) (hp : post 1) :
    wpX_sees post (C, R, us, ro, vl, mk, en, op, sn, lv, nu, tc, ov, al) S (nI v) := by
  unfold wpX_sees
  rw [nI_clamp (show v < 2 ^ 31 by omega)]
  refine ⟨pk_in v 96 hv, mh_in_t hm h.1 (br_f (by decide) ⟨pk_in v 96 hv, br_c (fun _ => hp) (fun z => ⟨pk_in v 96 hv, mh_in_f he ?_ (br_t rfl hp)⟩)⟩)⟩
  rintro (y | y)
  · exact z y
  · exact h.2 y
theorem mh_sees_f {post : Int32 → Prop} {S : Int64} {v : Nat} (hv : v < 96) (hm : mh_ok (mk v)) (he : mh_ok (en v)) (h : ¬ ((mk v = 0 ∨ mh_st S (mk v)) ∧ ¬ mh_st S (en v))) (hp : post 0) :
    wpX_sees post (C, R, us, ro, vl, mk, en, op, sn, lv, nu, tc, ov, al) S (nI v) := by
  unfold wpX_sees
  rw [nI_clamp (show v < 2 ^ 31 by omega)]
  refine ⟨pk_in v 96 hv, ?_⟩
  by_cases q : mk v = 0 ∨ mh_st S (mk v)
  · have e : mh_st S (en v) := Classical.byContradiction (fun z => h ⟨q, z⟩)
    exact mh_in_t hm q (br_f (by decide) ⟨pk_in v 96 hv, br_f (mh_st_ne e) ⟨pk_in v 96 hv, mh_in_t he (Or.inr e) (br_f (by decide) hp)⟩⟩)
  · exact mh_in_f hm q (br_t rfl hp)
/-- a number that is neither committed nor running -/
def mh_over (C R : Int64) (n : Int32) : Prop := n ≠ 0 ∧ ¬ mh_st C n ∧ ¬ mh_st R n
theorem mh_over_t {post : Int32 → Prop} {n : Int32} (hn : mh_ok n) (h : mh_over C R n) (hp : post 1) : wpX_over post (C, R, us, ro, vl, mk, en, op, sn, lv, nu, tc, ov, al) n := by
  refine br_f h.1 (mh_in_f hn ?_ (br_t rfl hp))
  rintro (z | z)
  · exact h.1 z
  · rcases (mh_st_or _ _ _).mp z with z | z
    · exact h.2.1 z
    · exact h.2.2 z
theorem mh_over_f {post : Int32 → Prop} {n : Int32} (hn : mh_ok n) (h : ¬ mh_over C R n) (hp : post 0) : wpX_over post (C, R, us, ro, vl, mk, en, op, sn, lv, nu, tc, ov, al) n := by
  refine br_c (fun _ => hp) (fun z => mh_in_t hn ?_ (br_f (by decide) hp))
  refine Or.inr ((mh_st_or _ _ _).mpr ?_)
  by_cases q : mh_st C n
  · exact Or.inl q
  · exact Or.inr (Classical.byContradiction (fun y => h ⟨z, q, y⟩))
theorem mh_ref_o {post : Int32 → Prop} {t : Nat} (ht : t < 4) (ho : op t ≠ 0) (hp : post 0) : wpX_refused post (C, R, us, ro, vl, mk, en, op, sn, lv, nu, tc, ov, al) (nI t) := by
  refine br_f (nI_pos (by omega)) (br_t (nI_lt (b := 4) ht (by decide)) ⟨pk_in t 4 ht, br_f ?_ hp⟩)
  rw [nI_clamp (by omega)]
  exact ho
theorem mh_ref_c {post : Int32 → Prop} {t : Nat} (ht : t < 4) (ho : op t = 0) (hp : post (-2)) : wpX_refused post (C, R, us, ro, vl, mk, en, op, sn, lv, nu, tc, ov, al) (nI t) := by
  refine br_f (nI_pos (by omega)) (br_t (nI_lt (b := 4) ht (by decide)) ⟨pk_in t 4 ht, br_t ?_ hp⟩)
  rw [nI_clamp (by omega)]
  exact ho
theorem mh_ref_b {post : Int32 → Prop} {x : Int32} (h : x < 0 ∨ ¬ x < 4) (hp : post (-1)) : wpX_refused post (C, R, us, ro, vl, mk, en, op, sn, lv, nu, tc, ov, al) x :=
  br_c (fun _ => hp) (fun z => br_f (h.resolve_left z) hp)
theorem mh_arg (x : Int32) {n : Nat} (hn : n < 2 ^ 31) : (x < 0 ∨ ¬ x < nI n) ∨ ∃ t, t < n ∧ x = nI t := by
  rcases pk_ix x hn with h | h | h
  · exact Or.inl (Or.inl h)
  · exact Or.inl (Or.inr (Int32.not_lt.mpr h))
  · exact Or.inr h
theorem mh_refr_o {post : Int32 → Prop} {t r : Nat} (ht : t < 4) (ho : op t ≠ 0) (hr : r < 8) (hp : post 0) : wpX_refusedRow post (C, R, us, ro, vl, mk, en, op, sn, lv, nu, tc, ov, al) (nI t) (nI r) := by
  unfold wpX_refusedRow
  exact mh_ref_o ht ho (br_t (by decide) (br_f (nI_pos (by omega)) (br_t (nI_lt (b := 8) hr (by decide)) hp)))
theorem mh_refr_c {post : Int32 → Prop} {t : Nat} {x : Int32} (ht : t < 4) (ho : op t = 0) (hp : post (-2)) : wpX_refusedRow post (C, R, us, ro, vl, mk, en, op, sn, lv, nu, tc, ov, al) (nI t) x := by
  unfold wpX_refusedRow
  exact mh_ref_c ht ho (br_f (by decide) hp)
theorem mh_refr_b {post : Int32 → Prop} {t x : Int32} (h : t < 0 ∨ ¬ t < 4) (hp : post (-1)) : wpX_refusedRow post (C, R, us, ro, vl, mk, en, op, sn, lv, nu, tc, ov, al) t x := by
  unfold wpX_refusedRow
  exact mh_ref_b h (br_f (by decide) hp)
theorem mh_refr_r {post : Int32 → Prop} {t : Nat} {x : Int32} (ht : t < 4) (ho : op t ≠ 0) (h : x < 0 ∨ ¬ x < 8) (hp : post (-1)) : wpX_refusedRow post (C, R, us, ro, vl, mk, en, op, sn, lv, nu, tc, ov, al) (nI t) x := by
  unfold wpX_refusedRow
  exact mh_ref_o ht ho (br_t (by decide) (br_c (fun _ => hp) (fun z => br_f (h.resolve_left z) hp)))
theorem mh_current {post : Int32 → Prop} {t l : Nat} (ht : t < 4) (hl : lv t = nI l) (hp : post (nI (t * 4 + l))) : wpX_current post (C, R, us, ro, vl, mk, en, op, sn, lv, nu, tc, ov, al) (nI t) := by
  refine ⟨pk_in t 4 ht, ?_⟩
  rw [nI_clamp (show t < 2 ^ 31 by omega), hl, mh_idx]
  exact hp
theorem mh_ownSet (C R : Int64) (us ro vl mk en op : Nat → Int32) (sn : Nat → Int64) (lv nu tc ov al : Nat → Int32) {t l : Nat} (ht : t < 4) (hl : lv t = nI l) (h4 : l < 4) (hn : ∀ k, k ≤ l → mh_ok (nu (t * 4 + k)) ∧ nu (t * 4 + k) ≠ 0 ∧ 0 ≤ tc (t * 4 + k)) :
    ∃ X, (∀ n, mh_st X n ↔ ∃ k, k ≤ l ∧ mh_nu nu t k = n) ∧ ∀ post : Int64 → Prop, post X → wpX_ownSet post (C, R, us, ro, vl, mk, en, op, sn, lv, nu, tc, ov, al) (nI t) := by
  refine mh_lp0 (fun post n i (x : Int64) => wX_ownSet_5 post (nI t) C R us ro vl mk en op sn lv nu tc ov al n x (nI i)) (l + 1) (fun i x => ∀ n, mh_st x n ↔ ∃ k, k < i ∧ mh_nu nu t k = n) (fun X => ∀ n, mh_st X n ↔ ∃ k, k ≤ l ∧ mh_nu nu t k = n) 0 ?_ ?_ ?_
  · exact fun n => ⟨fun z => absurd z (mh_st_z n), fun ⟨k, hk, _⟩ => absurd hk (by omega)⟩
  · intro i x hi hP
    refine Or.inr ⟨x ||| ((1 : Int64) <<< ((nu (t * 4 + i)).toInt64 &&& 63)), ?_, fun post n hw => ?_⟩
    · intro m
      obtain ⟨k1, k2, _⟩ := hn i (by omega)
      rw [mh_st_or, hP, mh_st_bit k1]
      constructor
      · rintro (⟨k, hk, e⟩ | ⟨e, _⟩)
        · exact ⟨k, by omega, e⟩
        · exact ⟨i, by omega, e.symm⟩
      · rintro ⟨k, hk, e⟩
        by_cases q : k = i
        · subst q
          exact Or.inr ⟨e.symm, by rw [← e]; exact k2⟩
        · exact Or.inl ⟨k, by omega, e⟩
    · refine ⟨pk_in t 4 ht, ?_⟩
      rw [nI_clamp (show t < 2 ^ 31 by omega), hl, mh_idx, nI_clamp (show t * 4 + i < 2 ^ 31 by omega)]
      exact pk_lt l i (fun z => absurd z (by omega)) (fun _ => ⟨pk_in (t * 4 + i) 16 (by omega), nm_e (nm_r (nI_1 i) hw)⟩)
  · intro x hP
    refine ⟨x, fun n => ?_, fun post n hp => ?_⟩
    · rw [hP]
      constructor
      · rintro ⟨k, hk, e⟩
        exact ⟨k, by omega, e⟩
      · rintro ⟨k, hk, e⟩
        exact ⟨k, by omega, e⟩
    · refine ⟨pk_in t 4 ht, ?_⟩
      rw [nI_clamp (show t < 2 ^ 31 by omega), hl]
      exact br_t (nI_lt (by omega) (by omega)) hp
theorem mh_changedBy {post : Int32 → Prop} {t l : Nat} (ht : t < 4) (hl : lv t = nI l) (h4 : l < 4) (hp : post (mh_cb (fun k => tc (t * 4 + k)) (l + 1))) :
    wpX_changedBy post (C, R, us, ro, vl, mk, en, op, sn, lv, nu, tc, ov, al) (nI t) := by
  have h : ∃ X, X = mh_cb (fun k => tc (t * 4 + k)) (l + 1) ∧ ∀ post : Int32 → Prop, post X → wpX_changedBy post (C, R, us, ro, vl, mk, en, op, sn, lv, nu, tc, ov, al) (nI t) := by
    refine mh_lp0 (fun post n i (x : Int32) => wX_changedBy_4 post (nI t) C R us ro vl mk en op sn lv nu tc ov al n x (nI i)) (l + 1) (fun i x => x = mh_cb (fun k => tc (t * 4 + k)) i) (fun X => X = mh_cb (fun k => tc (t * 4 + k)) (l + 1)) 0 rfl ?_ ?_
    · intro i x hi hP
      refine Or.inr ⟨x ||| tc (t * 4 + i), ?_, fun post n hw => ?_⟩
      · rw [hP]
        rfl
      · refine ⟨pk_in t 4 ht, ?_⟩
        rw [nI_clamp (show t < 2 ^ 31 by omega), hl, mh_idx, nI_clamp (show t * 4 + i < 2 ^ 31 by omega)]
        exact pk_lt l i (fun z => absurd z (by omega)) (fun _ => ⟨pk_in (t * 4 + i) 16 (by omega), nm_e (nm_r (nI_1 i) hw)⟩)
    · intro x hP
      refine ⟨x, hP, fun post n hp => ?_⟩
      refine ⟨pk_in t 4 ht, ?_⟩
      rw [nI_clamp (show t < 2 ^ 31 by omega), hl]
      exact br_t (nI_lt (by omega) (by omega)) hp
  obtain ⟨X, e, H⟩ := h
  subst e
  exact H post hp
theorem mh_versionFor (C R : Int64) (us ro vl mk en op : Nat → Int32) (sn : Nat → Int64) (lv nu tc ov al : Nat → Int32) (hK : mh_K1 us ro mk en) (S : Int64) (r : Int32) :
    ∃ x, mh_LK ro (mh_Q (mh_U us) mk en (mh_st S)) r x ∧ ∀ post : Int32 → Prop, post x → wpX_versionFor post (C, R, us, ro, vl, mk, en, op, sn, lv, nu, tc, ov, al) S r := by
  refine mh_lp0 (σ := Unit) (fun post n i _ => wX_versionFor_3 post S r C R us ro vl mk en op sn lv nu tc ov al n (nI i)) 96 (fun i _ => ∀ w, w < i → mh_Q (mh_U us) mk en (mh_st S) w → ro w ≠ r) (fun x => mh_LK ro (mh_Q (mh_U us) mk en (mh_st S)) r x) () (fun w hw => absurd hw (by omega)) ?_ ?_
  · intro i _ hi hP
    have next : (¬ (mh_Q (mh_U us) mk en (mh_st S) i ∧ ro i = r)) → ∀ w, w < i + 1 → mh_Q (mh_U us) mk en (mh_st S) w → ro w ≠ r := by
      intro hn w hw hq e
      by_cases q : w = i
      · subst q
        exact hn ⟨hq, e⟩
      · exact hP w (by omega) hq e
    by_cases hu : us i = 0
    · refine Or.inr ⟨(), next (fun z => z.1.1.2 hu), fun post n hw => ?_⟩
      refine pk_le 96 i (fun z => absurd z (by omega)) (fun _ => ⟨pk_in i 96 hi, ?_⟩)
      rw [nI_clamp (show i < 2 ^ 31 by omega)]
      exact br_t hu (nm_r (nI_1 i) hw)
    · obtain ⟨o1, o2, o3⟩ := hK i ⟨hi, hu⟩
      by_cases hr : ro i = r
      · by_cases hq : (mk i = 0 ∨ mh_st S (mk i)) ∧ ¬ mh_st S (en i)
        · refine Or.inl ⟨nI i, Or.inr ⟨i, hi, rfl, ⟨⟨hi, hu⟩, hq⟩, hr, hP⟩, fun post n hp => ?_⟩
          refine pk_le 96 i (fun z => absurd z (by omega)) (fun _ => ⟨pk_in i 96 hi, ?_⟩)
          rw [nI_clamp (show i < 2 ^ 31 by omega)]
          exact br_f hu ⟨pk_in i 96 hi, br_t hr (mh_sees_t hi o1 o2 hq (br_f (by decide) hp))⟩
        · refine Or.inr ⟨(), next (fun z => hq z.1.2), fun post n hw => ?_⟩
          refine pk_le 96 i (fun z => absurd z (by omega)) (fun _ => ⟨pk_in i 96 hi, ?_⟩)
          rw [nI_clamp (show i < 2 ^ 31 by omega)]
          exact br_f hu ⟨pk_in i 96 hi, br_t hr (mh_sees_f hi o1 o2 hq (br_t rfl (nm_r (nI_1 i) hw)))⟩
      · refine Or.inr ⟨(), next (fun z => hr z.2), fun post n hw => ?_⟩
        refine pk_le 96 i (fun z => absurd z (by omega)) (fun _ => ⟨pk_in i 96 hi, ?_⟩)
        rw [nI_clamp (show i < 2 ^ 31 by omega)]
        exact br_f hu ⟨pk_in i 96 hi, br_f hr (nm_r (nI_1 i) hw)⟩
  · intro _ hP
    refine ⟨-1, Or.inl ⟨rfl, fun v hv => hP v hv.1.1 hv⟩, fun post n hp => ?_⟩
    exact pk_le 96 96 (fun _ => hp) (fun z => absurd z (by omega))
theorem mh_versionOf (C R : Int64) (us ro vl mk en op : Nat → Int32) (sn : Nat → Int64) (lv nu tc ov al : Nat → Int32) (hK : mh_K1 us ro mk en) {t l : Nat} (ht : t < 4) (hl : lv t = nI l) (h4 : l < 4) (hn : ∀ k, k ≤ l → mh_ok (nu (t * 4 + k)) ∧ nu (t * 4 + k) ≠ 0 ∧ 0 ≤ tc (t * 4 + k)) (r : Int32) :
    ∃ x, mh_LK ro (mh_Q (mh_U us) mk en (mh_VS (mh_sn sn) (mh_nu nu) t l)) r x ∧ ∀ post : Int32 → Prop, post x → wpX_versionOf post (C, R, us, ro, vl, mk, en, op, sn, lv, nu, tc, ov, al) (nI t) r := by
  obtain ⟨X, hX, HX⟩ := mh_ownSet C R us ro vl mk en op sn lv nu tc ov al ht hl h4 hn
  obtain ⟨x, hx, Hx⟩ := mh_versionFor C R us ro vl mk en op sn lv nu tc ov al hK (sn t ||| X) r
  have e : mh_st (sn t ||| X) = mh_VS (mh_sn sn) (mh_nu nu) t l := by
    funext n
    apply propext
    rw [mh_st_or, hX]
    exact Iff.rfl
  rw [e] at hx
  refine ⟨x, hx, fun post hp => HX _ ⟨pk_in t 4 ht, ?_⟩⟩
  rw [nI_clamp (show t < 2 ^ 31 by omega)]
  exact Hx _ hp
/-- another transaction that runs has changed the row -/
def mh_bl (op lv tc : Nat → Int32) (t : Nat) (r : Int32) : Prop := ∃ a k, mh_sl op lv a k ∧ a ≠ t ∧ mh_tt tc a k r
theorem mh_blocked (C R : Int64) (us ro vl mk en op : Nat → Int32) (sn : Nat → Int64) (lv nu tc ov al : Nat → Int32) (hK : mh_K2 op lv nu tc) {t r : Nat} (ht : t < 4) (hr : r < 8) :
    ∃ x : Int32, ((x = -4 ∧ mh_bl op lv tc t (nI r)) ∨ (x = -5 ∧ ¬ mh_bl op lv tc t (nI r) ∧ mh_ov ov t (nI r)) ∨ (x = 0 ∧ ¬ mh_bl op lv tc t (nI r) ∧ ¬ mh_ov ov t (nI r))) ∧
      ∀ post : Int32 → Prop, post x → wpX_blocked post (C, R, us, ro, vl, mk, en, op, sn, lv, nu, tc, ov, al) (nI t) (nI r) := by
  refine mh_lp0 (σ := Unit) (fun post n i _ => wX_blocked_2 post (nI t) (nI r) C R us ro vl mk en op sn lv nu tc ov al n (nI i)) 4 (fun i _ => ∀ a k, a < i → mh_sl op lv a k → a ≠ t → ¬ mh_tt tc a k (nI r)) (fun x => (x = -4 ∧ mh_bl op lv tc t (nI r)) ∨ (x = -5 ∧ ¬ mh_bl op lv tc t (nI r) ∧ mh_ov ov t (nI r)) ∨ (x = 0 ∧ ¬ mh_bl op lv tc t (nI r) ∧ ¬ mh_ov ov t (nI r))) () (fun a k hw => absurd hw (by omega)) ?_ ?_
  · intro i _ hi hP
    have next : (∀ k, mh_sl op lv i k → i ≠ t → ¬ mh_tt tc i k (nI r)) → ∀ a k, a < i + 1 → mh_sl op lv a k → a ≠ t → ¬ mh_tt tc a k (nI r) := by
      intro hn a k ha
      by_cases q : a = i
      · subst q
        exact hn k
      · exact hP a k (by omega)
    by_cases hit : i = t
    · refine Or.inr ⟨(), next (fun k _ z => absurd hit z), fun post n hw => ?_⟩
      exact pk_le 4 i (fun z => absurd z (by omega)) (fun _ => br_t (by rw [hit]) (nm_r (nI_1 i) hw))
    · have hne : ¬ nI i = nI t := fun z => hit ((nI_eq (by omega) (by omega)).mp z)
      by_cases ho : op i = 0
      · refine Or.inr ⟨(), next (fun k z _ => absurd ho z.2.1), fun post n hw => ?_⟩
        refine pk_le 4 i (fun z => absurd z (by omega)) (fun _ => br_f hne ⟨pk_in i 4 hi, ?_⟩)
        rw [nI_clamp (show i < 2 ^ 31 by omega)]
        exact br_t ho (nm_r (nI_1 i) hw)
      · obtain ⟨l, h4, hl, hk⟩ := hK i hi ho
        by_cases hb : mh_tb (mh_cb (fun k => tc (i * 4 + k)) (l + 1)) (nI r)
        · obtain ⟨k, hk1, hk2⟩ := (mh_cb_tr (fun k => tc (i * 4 + k)) (nI r) (l + 1)).mp ⟨⟨r, hr, rfl⟩, hb⟩
          refine Or.inl ⟨-4, Or.inl ⟨rfl, i, k, (mh_sl_iff hi ho hl h4 k).mpr (by omega), hit, hk2⟩, fun post n hp => ?_⟩
          refine pk_le 4 i (fun z => absurd z (by omega)) (fun _ => br_f hne ⟨pk_in i 4 hi, ?_⟩)
          rw [nI_clamp (show i < 2 ^ 31 by omega)]
          exact br_f ho (mh_changedBy hi hl h4 (br_t hb hp))
        · refine Or.inr ⟨(), next (fun k z _ y => hb ?_), fun post n hw => ?_⟩
          · have hk1 := (mh_sl_iff hi ho hl h4 k).mp z
            exact ((mh_cb_tr (fun k => tc (i * 4 + k)) (nI r) (l + 1)).mpr ⟨k, by omega, y⟩).2
          · refine pk_le 4 i (fun z => absurd z (by omega)) (fun _ => br_f hne ⟨pk_in i 4 hi, ?_⟩)
            rw [nI_clamp (show i < 2 ^ 31 by omega)]
            exact br_f ho (mh_changedBy hi hl h4 (br_f hb (nm_r (nI_1 i) hw)))
  · intro _ hP
    have hnb : ¬ mh_bl op lv tc t (nI r) := fun ⟨a, k, h1, h2, h3⟩ => hP a k h1.1 h1 h2 h3
    by_cases hb : mh_tb (ov t) (nI r)
    · refine ⟨-5, Or.inr (Or.inl ⟨rfl, hnb, ⟨r, hr, rfl⟩, hb⟩), fun post n hp => ?_⟩
      refine pk_le 4 4 (fun _ => ⟨pk_in t 4 ht, ?_⟩) (fun z => absurd z (by omega))
      rw [nI_clamp (show t < 2 ^ 31 by omega)]
      exact br_t hb hp
    · refine ⟨0, Or.inr (Or.inr ⟨rfl, hnb, fun z => hb z.2⟩), fun post n hp => ?_⟩
      refine pk_le 4 4 (fun _ => ⟨pk_in t 4 ht, ?_⟩) (fun z => absurd z (by omega))
      rw [nI_clamp (show t < 2 ^ 31 by omega)]
      exact br_f hb hp
theorem mh_freeVersion (C R : Int64) (us ro vl mk en op : Nat → Int32) (sn : Nat → Int64) (lv nu tc ov al : Nat → Int32) (h : ∃ v, v < 96 ∧ us v = 0) :
    ∃ v : Nat, (v < 96 ∧ us v = 0) ∧ ∀ post : Int32 → Prop, post (nI v) → wpX_freeVersion post (C, R, us, ro, vl, mk, en, op, sn, lv, nu, tc, ov, al) := by
  have := mh_lp0 (σ := Unit) (fun post n i _ => wX_freeVersion_2 post C R us ro vl mk en op sn lv nu tc ov al n (nI i)) 96 (fun i _ => ∀ w, w < i → us w ≠ 0) (fun x : Int32 => ∃ v, (v < 96 ∧ us v = 0) ∧ x = nI v) () (fun w hw => absurd hw (by omega)) (by
    intro i _ hi hP
    by_cases hu : us i = 0
    · refine Or.inl ⟨nI i, ⟨i, ⟨hi, hu⟩, rfl⟩, fun post n hp => ?_⟩
      refine pk_le 96 i (fun z => absurd z (by omega)) (fun _ => ⟨pk_in i 96 hi, ?_⟩)
      rw [nI_clamp (show i < 2 ^ 31 by omega)]
      exact br_t hu hp
    · refine Or.inr ⟨(), lt_s hP hu, fun post n hw => ?_⟩
      refine pk_le 96 i (fun z => absurd z (by omega)) (fun _ => ⟨pk_in i 96 hi, ?_⟩)
      rw [nI_clamp (show i < 2 ^ 31 by omega)]
      exact br_f hu (nm_r (nI_1 i) hw)) (by
    intro _ hP
    obtain ⟨v, hv, e⟩ := h
    exact absurd e (hP v hv))
  obtain ⟨x, ⟨v, hv, e⟩, H⟩ := this
  subst e
  exact ⟨v, hv, H⟩
end
end
section
/-! walks: what tidying asks -/
/-- nobody sees a version with maker m and ender e, now or ever -/
def mh_ds (C : Int64) (op : Nat → Int32) (sn : Nat → Int64) (m e : Int32) : Prop := mh_st C e ∧ (m = 0 ∨ mh_st C m) ∧ ∀ t, t < 4 → op t ≠ 0 → ¬ ((m = 0 ∨ mh_st (sn t) m) ∧ ¬ mh_st (sn t) e)
def mh_dd (C R : Int64) (op : Nat → Int32) (sn : Nat → Int64) (m e : Int32) : Prop := mh_over C R m ∨ (m = e ∧ m ≠ 0) ∨ mh_ds C op sn m e
theorem mh_dead_86 (C R : Int64) (us ro vl mk en op : Nat → Int32) (sn : Nat → Int64) (lv nu tc ov al : Nat → Int32) {v : Nat} (hv : v < 96) (hm : mh_ok (mk v)) (he : mh_ok (en v)) :
    ∃ x : Int32, ((x = 1 ∧ ∀ t, t < 4 → op t ≠ 0 → ¬ ((mk v = 0 ∨ mh_st (sn t) (mk v)) ∧ ¬ mh_st (sn t) (en v))) ∨ (x = 0 ∧ ¬ ∀ t, t < 4 → op t ≠ 0 → ¬ ((mk v = 0 ∨ mh_st (sn t) (mk v)) ∧ ¬ mh_st (sn t) (en v)))) ∧
      ∀ post : Int32 → Prop, post x → ∃ n, wX_dead_86 post (nI v) C R us ro vl mk en op sn lv nu tc ov al n 0 := by
  refine mh_lp0 (σ := Unit) (fun post n i _ => wX_dead_86 post (nI v) C R us ro vl mk en op sn lv nu tc ov al n (nI i)) 4 (fun i _ => ∀ t, t < i → op t ≠ 0 → ¬ ((mk v = 0 ∨ mh_st (sn t) (mk v)) ∧ ¬ mh_st (sn t) (en v))) (fun x => (x = 1 ∧ ∀ t, t < 4 → op t ≠ 0 → ¬ ((mk v = 0 ∨ mh_st (sn t) (mk v)) ∧ ¬ mh_st (sn t) (en v))) ∨ (x = 0 ∧ ¬ ∀ t, t < 4 → op t ≠ 0 → ¬ ((mk v = 0 ∨ mh_st (sn t) (mk v)) ∧ ¬ mh_st (sn t) (en v)))) () (fun w hw => absurd hw (by omega)) ?_ ?_
  · intro i _ hi hP
    by_cases ho : op i = 0
    · refine Or.inr ⟨(), lt_s hP (fun z => absurd ho z), fun post n hw => ?_⟩
      refine pk_le 4 i (fun z => absurd z (by omega)) (fun _ => ⟨pk_in i 4 hi, ?_⟩)
      rw [nI_clamp (show i < 2 ^ 31 by omega)]
      exact br_t ho (nm_r (nI_1 i) hw)
    · by_cases hq : (mk v = 0 ∨ mh_st (sn i) (mk v)) ∧ ¬ mh_st (sn i) (en v)
      · refine Or.inl ⟨0, Or.inr ⟨rfl, fun z => z i hi ho hq⟩, fun post n hp => ?_⟩
        refine pk_le 4 i (fun z => absurd z (by omega)) (fun _ => ⟨pk_in i 4 hi, ?_⟩)
        rw [nI_clamp (show i < 2 ^ 31 by omega)]
        exact br_f ho ⟨pk_in i 4 hi, mh_sees_t hv hm he hq (br_f (by decide) hp)⟩
      · refine Or.inr ⟨(), lt_s hP (fun _ => hq), fun post n hw => ?_⟩
        refine pk_le 4 i (fun z => absurd z (by omega)) (fun _ => ⟨pk_in i 4 hi, ?_⟩)
        rw [nI_clamp (show i < 2 ^ 31 by omega)]
        exact br_f ho ⟨pk_in i 4 hi, mh_sees_f hv hm he hq (br_t rfl (nm_r (nI_1 i) hw))⟩
  · intro _ hP
    exact ⟨1, Or.inl ⟨rfl, hP⟩, fun post n hp => pk_le 4 4 (fun _ => hp) (fun z => absurd z (by omega))⟩
theorem mh_dead_39 (C R : Int64) (us ro vl mk en op : Nat → Int32) (sn : Nat → Int64) (lv nu tc ov al : Nat → Int32) {v : Nat} (hv : v < 96) (hm : mh_ok (mk v)) (he : mh_ok (en v)) :
    ∃ x : Int32, ((x = 1 ∧ mh_ds C op sn (mk v) (en v)) ∨ (x = 0 ∧ ¬ mh_ds C op sn (mk v) (en v))) ∧ ∀ post : Int32 → Prop, post x → wX_dead_39 post (nI v) C R us ro vl mk en op sn lv nu tc ov al := by
  have hb : v < 2 ^ 31 := by omega
  by_cases e0 : en v = 0
  · refine ⟨0, Or.inr ⟨rfl, fun z => mh_st_ne z.1 e0⟩, fun post hp => ?_⟩
    unfold wX_dead_39
    rw [nI_clamp hb]
    exact ⟨pk_in v 96 hv, br_t e0 hp⟩
  · by_cases e1 : mh_st C (en v)
    · by_cases e2 : mk v = 0 ∨ mh_st C (mk v)
      · obtain ⟨x, hx, H⟩ := mh_dead_86 C R us ro vl mk en op sn lv nu tc ov al hv hm he
        refine ⟨x, ?_, fun post hp => ?_⟩
        · rcases hx with ⟨h1, h2⟩ | ⟨h1, h2⟩
          · exact Or.inl ⟨h1, e1, e2, h2⟩
          · exact Or.inr ⟨h1, fun z => h2 z.2.2⟩
        · unfold wX_dead_39
          rw [nI_clamp hb]
          exact ⟨pk_in v 96 hv, br_f e0 ⟨pk_in v 96 hv, mh_in_t he (Or.inr e1) (br_f (by decide) ⟨pk_in v 96 hv, mh_in_t hm e2 (br_f (by decide) (H post hp))⟩)⟩⟩
      · refine ⟨0, Or.inr ⟨rfl, fun z => e2 z.2.1⟩, fun post hp => ?_⟩
        unfold wX_dead_39
        rw [nI_clamp hb]
        exact ⟨pk_in v 96 hv, br_f e0 ⟨pk_in v 96 hv, mh_in_t he (Or.inr e1) (br_f (by decide) ⟨pk_in v 96 hv, mh_in_f hm e2 (br_t rfl hp)⟩)⟩⟩
    · refine ⟨0, Or.inr ⟨rfl, fun z => e1 z.1⟩, fun post hp => ?_⟩
      unfold wX_dead_39
      rw [nI_clamp hb]
      exact ⟨pk_in v 96 hv, br_f e0 ⟨pk_in v 96 hv, mh_in_f he (fun z => z.elim e0 e1) (br_t rfl hp)⟩⟩
theorem mh_dead (C R : Int64) (us ro vl mk en op : Nat → Int32) (sn : Nat → Int64) (lv nu tc ov al : Nat → Int32) {v : Nat} (hv : v < 96) (hm : mh_ok (mk v)) (he : mh_ok (en v)) :
    ∃ x : Int32, ((x = 1 ∧ mh_dd C R op sn (mk v) (en v)) ∨ (x = 0 ∧ ¬ mh_dd C R op sn (mk v) (en v))) ∧ ∀ post : Int32 → Prop, post x → wpX_dead post (C, R, us, ro, vl, mk, en, op, sn, lv, nu, tc, ov, al) (nI v) := by
  have hb : v < 2 ^ 31 := by omega
  by_cases h1 : mh_over C R (mk v)
  · refine ⟨1, Or.inl ⟨rfl, Or.inl h1⟩, fun post hp => ?_⟩
    unfold wpX_dead
    rw [nI_clamp hb]
    exact ⟨pk_in v 96 hv, mh_over_t hm h1 (br_f (by decide) hp)⟩
  · by_cases h2 : mk v = en v
    · by_cases h3 : mk v = 0
      · obtain ⟨x, hx, H⟩ := mh_dead_39 C R us ro vl mk en op sn lv nu tc ov al hv hm he
        refine ⟨x, ?_, fun post hp => ?_⟩
        · rcases hx with ⟨g1, g2⟩ | ⟨g1, g2⟩
          · exact Or.inl ⟨g1, Or.inr (Or.inr g2)⟩
          · exact Or.inr ⟨g1, fun z => z.elim h1 (fun y => y.elim (fun w => w.2 h3) g2)⟩
        · unfold wpX_dead
          rw [nI_clamp hb]
          exact ⟨pk_in v 96 hv, mh_over_f hm h1 (br_t rfl ⟨pk_in v 96 hv, pk_in v 96 hv, br_t h2 ⟨pk_in v 96 hv, br_t h3 (H post hp)⟩⟩)⟩
      · refine ⟨1, Or.inl ⟨rfl, Or.inr (Or.inl ⟨h2, h3⟩)⟩, fun post hp => ?_⟩
        unfold wpX_dead
        rw [nI_clamp hb]
        exact ⟨pk_in v 96 hv, mh_over_f hm h1 (br_t rfl ⟨pk_in v 96 hv, pk_in v 96 hv, br_t h2 ⟨pk_in v 96 hv, br_f h3 hp⟩⟩)⟩
    · obtain ⟨x, hx, H⟩ := mh_dead_39 C R us ro vl mk en op sn lv nu tc ov al hv hm he
      refine ⟨x, ?_, fun post hp => ?_⟩
      · rcases hx with ⟨g1, g2⟩ | ⟨g1, g2⟩
        · exact Or.inl ⟨g1, Or.inr (Or.inr g2)⟩
        · exact Or.inr ⟨g1, fun z => z.elim h1 (fun y => y.elim (fun w => h2 w.1) g2)⟩
      · unfold wpX_dead
        rw [nI_clamp hb]
        exact ⟨pk_in v 96 hv, mh_over_f hm h1 (br_t rfl ⟨pk_in v 96 hv, pk_in v 96 hv, br_f h2 (H post hp)⟩)⟩
/-- transaction t doesn't run, or has the number in its snapshot -/
def mh_pt (op : Nat → Int32) (sn : Nat → Int64) (n : Int32) (t : Nat) : Prop := op t = 0 ∨ mh_st (sn t) n
theorem mh_p2 : ∀ i, i < 4 → (1 : Int32) <<< (nI i &&& 31) = nI (2 ^ i) := by decide +kernel
theorem mh_pattern (C R : Int64) (us ro vl mk en op : Nat → Int32) (sn : Nat → Int64) (lv nu tc ov al : Nat → Int32) {n : Int32} (hn : mh_ok n) (h0 : n ≠ 0) :
    ∃ x : Int32, (∃ p : Nat, x = nI p ∧ p < 16 ∧ ∀ t, t < 4 → (p.testBit t = true ↔ mh_pt op sn n t)) ∧ ∀ post : Int32 → Prop, post x → wpX_pattern post (C, R, us, ro, vl, mk, en, op, sn, lv, nu, tc, ov, al) n := by
  refine mh_lp0 (fun post f i (p : Nat) => wX_pattern_4 post n C R us ro vl mk en op sn lv nu tc ov al f (nI p) (nI i)) 4 (fun i p => p < 2 ^ i ∧ ∀ t, t < i → (p.testBit t = true ↔ mh_pt op sn n t)) (fun x => ∃ p : Nat, x = nI p ∧ p < 16 ∧ ∀ t, t < 4 → (p.testBit t = true ↔ mh_pt op sn n t)) 0 ⟨by decide, fun t ht => absurd ht (by omega)⟩ ?_ ?_
  · intro i p hi hP
    obtain ⟨hp1, hp2⟩ := hP
    have yes : mh_pt op sn n i → (p ||| 2 ^ i) < 2 ^ (i + 1) ∧ ∀ t, t < i + 1 → ((p ||| 2 ^ i).testBit t = true ↔ mh_pt op sn n t) := by
      intro hy
      refine ⟨Nat.or_lt_two_pow (by rw [Nat.pow_succ]; omega) (Nat.pow_lt_pow_right (by decide) (by omega)), fun t ht => ?_⟩
      rw [Nat.testBit_or, Nat.testBit_two_pow]
      by_cases q : t = i
      · subst q
        simp [hy]
      · rw [decide_eq_false (fun z => q z.symm), Bool.or_false]
        exact hp2 t (by omega)
    have no : ¬ mh_pt op sn n i → p < 2 ^ (i + 1) ∧ ∀ t, t < i + 1 → (p.testBit t = true ↔ mh_pt op sn n t) := by
      intro hy
      refine ⟨by rw [Nat.pow_succ]; omega, fun t ht => ?_⟩
      by_cases q : t = i
      · subst q
        rw [Nat.testBit_lt_two_pow hp1]
        exact ⟨fun z => absurd z (by decide), fun z => absurd z hy⟩
      · exact hp2 t (by omega)
    have e1 : nI p ||| ((1 : Int32) <<< (nI i &&& 31)) = nI (p ||| 2 ^ i) := by rw [mh_p2 i hi, mh_nI_or]
    by_cases ho : op i = 0
    · refine Or.inr ⟨p ||| 2 ^ i, yes (Or.inl ho), fun post f hw => ?_⟩
      refine pk_le 4 i (fun z => absurd z (by omega)) (fun _ => ⟨pk_in i 4 hi, ?_⟩)
      rw [nI_clamp (show i < 2 ^ 31 by omega)]
      refine br_t ho ?_
      unfold wX_pattern_32
      exact nm_r e1 (nm_r (nI_1 i) hw)
    · by_cases hq : mh_st (sn i) n
      · refine Or.inr ⟨p ||| 2 ^ i, yes (Or.inr hq), fun post f hw => ?_⟩
        refine pk_le 4 i (fun z => absurd z (by omega)) (fun _ => ⟨pk_in i 4 hi, ?_⟩)
        rw [nI_clamp (show i < 2 ^ 31 by omega)]
        refine br_f ho ⟨pk_in i 4 hi, mh_in_t hn (Or.inr hq) (br_f (by decide) ?_)⟩
        unfold wX_pattern_32
        exact nm_r e1 (nm_r (nI_1 i) hw)
      · refine Or.inr ⟨p, no (fun z => z.elim ho hq), fun post f hw => ?_⟩
        refine pk_le 4 i (fun z => absurd z (by omega)) (fun _ => ⟨pk_in i 4 hi, ?_⟩)
        rw [nI_clamp (show i < 2 ^ 31 by omega)]
        exact br_f ho ⟨pk_in i 4 hi, mh_in_f hn (fun z => z.elim h0 hq) (br_t rfl (nm_r (nI_1 i) hw))⟩
  · intro p hP
    exact ⟨nI p, ⟨p, rfl, hP.1, hP.2⟩, fun post f hp => pk_le 4 4 (fun _ => hp) (fun z => absurd z (by omega))⟩
/-- what stands in alike -/
def mh_AL (C : Int64) (op : Nat → Int32) (sn : Nat → Int64) (al : Nat → Int32) : Prop := ∀ p, p < 16 → al p ≠ 0 → mh_st C (al p) ∧ ∀ t, t < 4 → (p.testBit t = true ↔ mh_pt op sn (al p) t)
def mh_Es (C : Int64) (op : Nat → Int32) (sn : Nat → Int64) (n n' : Int32) : Prop :=
  (n' = n ∧ ¬ mh_st C n) ∨ (mh_st C n ∧ n' = 0 ∧ ∀ t, t < 4 → op t ≠ 0 → mh_st (sn t) n) ∨ (mh_st C n ∧ mh_st C n' ∧ ∀ t, t < 4 → op t ≠ 0 → (mh_st (sn t) n ↔ mh_st (sn t) n'))
def mh_SD (C : Int64) (op : Nat → Int32) (sn : Nat → Int64) (al : Nat → Int32) (n n' : Int32) (al' : Nat → Int32) : Prop :=
  mh_Es C op sn n n' ∧ mh_AL C op sn al' ∧ (∀ p, p < 16 → al p ≠ 0 → al' p = al p) ∧ (mh_st C n' → ∃ p, p < 15 ∧ al' p = n') ∧ mh_ok n'
theorem mh_t15 : ∀ t, t < 4 → (15 : Nat).testBit t = true := by decide
theorem mh_standing (C R : Int64) (us ro vl mk en op : Nat → Int32) (sn : Nat → Int64) (lv nu tc ov al : Nat → Int32) {n : Int32} (hn : mh_ok n) (hA : mh_AL C op sn al) :
    ∃ n' al', mh_SD C op sn al n n' al' ∧ ∀ post : Int32 → St1 → Prop, post n' (C, R, us, ro, vl, mk, en, op, sn, lv, nu, tc, ov, al') → wpX_standing post (C, R, us, ro, vl, mk, en, op, sn, lv, nu, tc, ov, al) n := by
  by_cases h0 : n = 0
  · have hc : ¬ mh_st C n := by rw [h0]; exact mh_st_0
    exact ⟨n, al, ⟨Or.inl ⟨rfl, hc⟩, hA, fun p _ _ => rfl, fun z => absurd z hc, hn⟩, fun post hp => br_t h0 hp⟩
  · by_cases hc : mh_st C n
    · obtain ⟨x, ⟨p, rfl, hp16, hpt⟩, H⟩ := mh_pattern C R us ro vl mk en op sn lv nu tc ov al hn h0
      have hbit : ¬ (((C.toUInt64 >>> (n.toInt64.toUInt64 &&& Int64.toUInt64 63)).toInt64) &&& 1) = 0 := by
        rw [mh_mb_0]
        exact fun z => z hc.2.2
      by_cases h15 : p = 15
      · refine ⟨0, al, ⟨Or.inr (Or.inl ⟨hc, rfl, fun t ht ho => ?_⟩), hA, fun p _ _ => rfl, fun z => absurd z mh_st_0, mh_ok_0⟩, fun post hp => ?_⟩
        · have z := (hpt t ht).mp (by rw [h15]; exact mh_t15 t ht)
          exact z.resolve_left ho
        · exact br_f h0 (br_f hbit (H _ (br_t (by rw [h15]; rfl) hp)))
      · have hne : ¬ nI p = 15 := fun z => h15 ((nI_eq (b := 15) (by omega) (by decide)).mp z)
        by_cases ha : al p = 0
        · have e : upd al p n p = n := pk_us
          refine ⟨upd al p n p, upd al p n, ⟨?_, ?_, ?_, ?_, ?_⟩, fun post hp => ?_⟩
          · rw [e]
            exact Or.inr (Or.inr ⟨hc, hc, fun t _ _ => Iff.rfl⟩)
          · intro p' hp' hne'
            by_cases q : p' = p
            · subst q
              rw [e]
              exact ⟨hc, hpt⟩
            · rw [pk_un q] at hne' ⊢
              exact hA p' hp' hne'
          · intro p' hp' hne'
            by_cases q : p' = p
            · subst q
              exact absurd ha hne'
            · exact pk_un q
          · exact fun _ => ⟨p, by omega, rfl⟩
          · rw [e]
            exact hn
          · refine br_f h0 (br_f hbit (H _ (br_f hne ⟨pk_in p 16 hp16, ?_⟩)))
            rw [nI_clamp (show p < 2 ^ 31 by omega)]
            exact br_t ha ⟨pk_in p 16 hp16, nm_e ⟨pk_in p 16 hp16, hp⟩⟩
        · obtain ⟨g1, g2⟩ := hA p hp16 ha
          refine ⟨al p, al, ⟨Or.inr (Or.inr ⟨hc, g1, fun t ht ho => ?_⟩), hA, fun p _ _ => rfl, fun _ => ⟨p, by omega, rfl⟩, g1.1⟩, fun post hp => ?_⟩
          · have z1 := hpt t ht
            have z2 := g2 t ht
            constructor
            · exact fun y => (z2.mp (z1.mpr (Or.inr y))).resolve_left ho
            · exact fun y => (z1.mp (z2.mpr (Or.inr y))).resolve_left ho
          · refine br_f h0 (br_f hbit (H _ (br_f hne ⟨pk_in p 16 hp16, ?_⟩)))
            rw [nI_clamp (show p < 2 ^ 31 by omega)]
            exact br_f ha ⟨pk_in p 16 hp16, hp⟩
    · exact ⟨n, al, ⟨Or.inl ⟨rfl, hc⟩, hA, fun p _ _ => rfl, fun z => absurd z hc, hn⟩, fun post hp => br_f h0 (br_t ((mh_mb_0 _ _).mpr (fun z => hc ⟨hn, h0, z⟩)) hp)⟩
theorem mh_standing_2 (C R : Int64) (us ro vl mk en op : Nat → Int32) (sn : Nat → Int64) (lv nu tc ov al : Nat → Int32) {n : Int32} (hn : mh_ok n) (hA : mh_AL C op sn al) :
    ∃ n' al', mh_SD C op sn al n n' al' ∧ ∀ post : Int32 → St1 → Prop, post n' (C, R, us, ro, vl, mk, en, op, sn, lv, nu, tc, ov, al') → wpX_standing_2 post (C, R, us, ro, vl, mk, en, op, sn, lv, nu, tc, ov, al) n := by
  by_cases h0 : n = 0
  · have hc : ¬ mh_st C n := by rw [h0]; exact mh_st_0
    exact ⟨n, al, ⟨Or.inl ⟨rfl, hc⟩, hA, fun p _ _ => rfl, fun z => absurd z hc, hn⟩, fun post hp => br_t h0 hp⟩
  · by_cases hc : mh_st C n
    · obtain ⟨x, ⟨p, rfl, hp16, hpt⟩, H⟩ := mh_pattern C R us ro vl mk en op sn lv nu tc ov al hn h0
      have hbit : ¬ (((C.toUInt64 >>> (n.toInt64.toUInt64 &&& Int64.toUInt64 63)).toInt64) &&& 1) = 0 := by
        rw [mh_mb_0]
        exact fun z => z hc.2.2
      by_cases h15 : p = 15
      · refine ⟨0, al, ⟨Or.inr (Or.inl ⟨hc, rfl, fun t ht ho => ?_⟩), hA, fun p _ _ => rfl, fun z => absurd z mh_st_0, mh_ok_0⟩, fun post hp => ?_⟩
        · have z := (hpt t ht).mp (by rw [h15]; exact mh_t15 t ht)
          exact z.resolve_left ho
        · exact br_f h0 (br_f hbit (H _ (br_t (by rw [h15]; rfl) hp)))
      · have hne : ¬ nI p = 15 := fun z => h15 ((nI_eq (b := 15) (by omega) (by decide)).mp z)
        by_cases ha : al p = 0
        · have e : upd al p n p = n := pk_us
          refine ⟨upd al p n p, upd al p n, ⟨?_, ?_, ?_, ?_, ?_⟩, fun post hp => ?_⟩
          · rw [e]
            exact Or.inr (Or.inr ⟨hc, hc, fun t _ _ => Iff.rfl⟩)
          · intro p' hp' hne'
            by_cases q : p' = p
            · subst q
              rw [e]
              exact ⟨hc, hpt⟩
            · rw [pk_un q] at hne' ⊢
              exact hA p' hp' hne'
          · intro p' hp' hne'
            by_cases q : p' = p
            · subst q
              exact absurd ha hne'
            · exact pk_un q
          · exact fun _ => ⟨p, by omega, rfl⟩
          · rw [e]
            exact hn
          · refine br_f h0 (br_f hbit (H _ (br_f hne ⟨pk_in p 16 hp16, ?_⟩)))
            rw [nI_clamp (show p < 2 ^ 31 by omega)]
            exact br_t ha ⟨pk_in p 16 hp16, nm_e ⟨pk_in p 16 hp16, hp⟩⟩
        · obtain ⟨g1, g2⟩ := hA p hp16 ha
          refine ⟨al p, al, ⟨Or.inr (Or.inr ⟨hc, g1, fun t ht ho => ?_⟩), hA, fun p _ _ => rfl, fun _ => ⟨p, by omega, rfl⟩, g1.1⟩, fun post hp => ?_⟩
          · have z1 := hpt t ht
            have z2 := g2 t ht
            constructor
            · exact fun y => (z2.mp (z1.mpr (Or.inr y))).resolve_left ho
            · exact fun y => (z1.mp (z2.mpr (Or.inr y))).resolve_left ho
          · refine br_f h0 (br_f hbit (H _ (br_f hne ⟨pk_in p 16 hp16, ?_⟩)))
            rw [nI_clamp (show p < 2 ^ 31 by omega)]
            exact br_f ha ⟨pk_in p 16 hp16, hp⟩
    · exact ⟨n, al, ⟨Or.inl ⟨rfl, hc⟩, hA, fun p _ _ => rfl, fun z => absurd z hc, hn⟩, fun post hp => br_f h0 (br_t ((mh_mb_0 _ _).mpr (fun z => hc ⟨hn, h0, z⟩)) hp)⟩
end
section
/-! walks: tidying, its loops -/
theorem mh_tidy_179 (x : Int64) (C R : Int64) (us ro vl mk en op : Nat → Int32) (sn : Nat → Int64) (lv nu tc ov al : Nat → Int32) :
    ∃ u : St1, (∃ sn' : Nat → Int64, u = (C, R, us, ro, vl, mk, en, op, sn', lv, nu, tc, ov, al) ∧ ∀ t, t < 4 → sn' t = sn t &&& x) ∧ ∀ post : St1 → Prop, post u → ∃ n, wX_tidy_179 post x C R n 0 us ro vl mk en op sn lv nu tc ov al := by
  refine mh_lp0 (fun post n i (s : Nat → Int64) => wX_tidy_179 post x C R n (nI i) us ro vl mk en op s lv nu tc ov al) 4 (fun i s => (∀ t, t < i → s t = sn t &&& x) ∧ ∀ t, i ≤ t → s t = sn t) (fun u => ∃ sn' : Nat → Int64, u = (C, R, us, ro, vl, mk, en, op, sn', lv, nu, tc, ov, al) ∧ ∀ t, t < 4 → sn' t = sn t &&& x) sn ⟨fun t ht => absurd ht (by omega), fun t _ => rfl⟩ ?_ ?_
  · intro i s hi hP
    refine Or.inr ⟨vp_updL s i (s i &&& x), ⟨fun t ht => ?_, fun t ht => ?_⟩, fun post n hw => ?_⟩
    · by_cases q : t = i
      · subst q
        rw [pk_uLs, hP.2 t (Nat.le_refl t)]
      · rw [pk_uLn q]
        exact hP.1 t (by omega)
    · rw [pk_uLn (show t ≠ i by omega)]
      exact hP.2 t (by omega)
    · refine pk_le 4 i (fun z => absurd z (by omega)) (fun _ => ⟨pk_in i 4 hi, pk_in i 4 hi, ?_⟩)
      rw [nI_clamp (show i < 2 ^ 31 by omega)]
      exact nm_e (nm_r (nI_1 i) hw)
  · intro s hP
    exact ⟨_, ⟨s, rfl, hP.1⟩, fun post n hp => pk_le 4 4 (fun _ => hp) (fun z => absurd z (by omega))⟩
/-- the second loop: versions below i have their numbers replaced; x holds the running numbers and those that are mentioned -/
def mh_P90 (C R : Int64) (us mk en op : Nat → Int32) (sn : Nat → Int64) (i : Nat) (x : Int64) (m e a : Nat → Int32) : Prop :=
  (∀ v, ¬ (v < i ∧ us v ≠ 0) → m v = mk v ∧ e v = en v) ∧
  (∀ v, v < i → us v ≠ 0 → mh_Es C op sn (mk v) (m v) ∧ mh_Es C op sn (en v) (e v) ∧ mh_ok (m v) ∧ mh_ok (e v)) ∧
  (∀ n, mh_st x n ↔ mh_st R n ∨ (n ≠ 0 ∧ ∃ v, (v < i ∧ us v ≠ 0) ∧ (m v = n ∨ e v = n))) ∧
  mh_AL C op sn a ∧
  (∀ v, v < i → us v ≠ 0 → (mh_st C (m v) → ∃ p, p < 15 ∧ a p = m v) ∧ (mh_st C (e v) → ∃ p, p < 15 ∧ a p = e v))
theorem mh_P90_0 {C R : Int64} {us mk en op : Nat → Int32} {sn : Nat → Int64} {a : Nat → Int32} (ha : ∀ p, p < 16 → a p = 0) : mh_P90 C R us mk en op sn 0 R mk en a :=
  ⟨fun _ _ => ⟨rfl, rfl⟩, fun v hv => absurd hv (by omega), fun n => ⟨Or.inl, fun z => z.elim id (fun ⟨_, v, hv, _⟩ => absurd hv.1 (by omega))⟩, fun p hp hne => absurd (ha p hp) hne, fun v hv => absurd hv (by omega)⟩
theorem mh_P90_skip {C R x : Int64} {us mk en op : Nat → Int32} {sn : Nat → Int64} {m e a : Nat → Int32} {i : Nat} (h : mh_P90 C R us mk en op sn i x m e a) (hu : us i = 0) : mh_P90 C R us mk en op sn (i + 1) x m e a := by
  obtain ⟨h1, h2, h3, h4, h5⟩ := h
  have low : ∀ v, v < i + 1 → us v ≠ 0 → v < i := by
    intro v hv hne
    by_cases q : v = i
    · subst q
      exact absurd hu hne
    · omega
  refine ⟨fun v hv => h1 v (fun z => hv ⟨by omega, z.2⟩), fun v hv hne => h2 v (low v hv hne) hne, fun n => ?_, h4, fun v hv hne => h5 v (low v hv hne) hne⟩
  rw [h3]
  constructor
  · rintro (z | ⟨z, v, hv, y⟩)
    · exact Or.inl z
    · exact Or.inr ⟨z, v, ⟨by omega, hv.2⟩, y⟩
  · rintro (z | ⟨z, v, hv, y⟩)
    · exact Or.inl z
    · exact Or.inr ⟨z, v, ⟨low v hv.1 hv.2, hv.2⟩, y⟩
theorem mh_P90_step {C R x : Int64} {us mk en op : Nat → Int32} {sn : Nat → Int64} {m e a a1 a2 : Nat → Int32} {i : Nat} {n1 n2 : Int32} (h : mh_P90 C R us mk en op sn i x m e a) (hu : us i ≠ 0)
    (hs1 : mh_SD C op sn a (mk i) n1 a1) (hs2 : mh_SD C op sn a1 (en i) n2 a2) :
    mh_P90 C R us mk en op sn (i + 1) ((x ||| ((1 : Int64) <<< ((upd m i n1 i).toInt64 &&& 63))) ||| ((1 : Int64) <<< ((upd e i n2 i).toInt64 &&& 63))) (upd m i n1) (upd e i n2) a2 := by
  obtain ⟨h1, h2, h3, h4, h5⟩ := h
  obtain ⟨s1, s2, s3, s4, s5⟩ := hs1
  obtain ⟨r1, r2, r3, r4, r5⟩ := hs2
  have em : upd m i n1 i = n1 := pk_us
  have ee : upd e i n2 i = n2 := pk_us
  have c1 : ∀ n, mh_st C n → (∃ p, p < 15 ∧ a p = n) → ∃ p, p < 15 ∧ a1 p = n := by
    rintro n hn ⟨p, hp, z⟩
    exact ⟨p, hp, by rw [s3 p (by omega) (by rw [z]; exact mh_st_ne hn), z]⟩
  have c2 : ∀ n, mh_st C n → (∃ p, p < 15 ∧ a1 p = n) → ∃ p, p < 15 ∧ a2 p = n := by
    rintro n hn ⟨p, hp, z⟩
    exact ⟨p, hp, by rw [r3 p (by omega) (by rw [z]; exact mh_st_ne hn), z]⟩
  refine ⟨fun v hv => ?_, fun v hv hne => ?_, fun n => ?_, r2, fun v hv hne => ?_⟩
  · have q : v ≠ i := fun z => hv ⟨by omega, by rw [z]; exact hu⟩
    rw [pk_un q, pk_un q]
    exact h1 v (fun z => hv ⟨by omega, z.2⟩)
  · by_cases q : v = i
    · subst q
      rw [em, ee]
      exact ⟨s1, r1, s5, r5⟩
    · rw [pk_un q, pk_un q]
      exact h2 v (by omega) hne
  · rw [mh_st_or, mh_st_or, h3, em, ee, mh_st_bit s5, mh_st_bit r5]
    constructor
    · rintro (((z | ⟨z, v, hv, y⟩) | ⟨z, y⟩) | ⟨z, y⟩)
      · exact Or.inl z
      · have q : v ≠ i := by omega
        exact Or.inr ⟨z, v, ⟨by omega, hv.2⟩, by rw [pk_un q, pk_un q]; exact y⟩
      · exact Or.inr ⟨y, i, ⟨by omega, hu⟩, Or.inl (by rw [em, z])⟩
      · exact Or.inr ⟨y, i, ⟨by omega, hu⟩, Or.inr (by rw [ee, z])⟩
    · rintro (z | ⟨z, v, hv, y⟩)
      · exact Or.inl (Or.inl (Or.inl z))
      · by_cases q : v = i
        · subst q
          rw [em, ee] at y
          rcases y with y | y
          · exact Or.inl (Or.inr ⟨y.symm, z⟩)
          · exact Or.inr ⟨y.symm, z⟩
        · rw [pk_un q, pk_un q] at y
          exact Or.inl (Or.inl (Or.inr ⟨z, v, ⟨by omega, hv.2⟩, y⟩))
  · by_cases q : v = i
    · subst q
      rw [em, ee]
      exact ⟨fun z => c2 _ z (s4 z), r4⟩
    · rw [pk_un q, pk_un q]
      obtain ⟨g1, g2⟩ := h5 v (by omega) hne
      exact ⟨fun z => c2 _ z (c1 _ z (g1 z)), fun z => c2 _ z (c1 _ z (g2 z))⟩
theorem mh_tidy_90 (C R : Int64) (us ro vl mk en op : Nat → Int32) (sn : Nat → Int64) (lv nu tc ov al : Nat → Int32) (hK : ∀ v, v < 96 → us v ≠ 0 → mh_ok (mk v) ∧ mh_ok (en v)) (ha : ∀ p, p < 16 → al p = 0) :
    ∃ u : St1, (∃ (x : Int64) (m e a : Nat → Int32) (sn' : Nat → Int64), u = (C &&& x, R, us, ro, vl, m, e, op, sn', lv, nu, tc, ov, a) ∧ mh_P90 C R us mk en op sn 96 x m e a ∧ ∀ t, t < 4 → sn' t = sn t &&& x) ∧
      ∀ post : St1 → Prop, post u → ∃ n, wX_tidy_90 post n R 0 C R us ro vl mk en op sn lv nu tc ov al := by
  refine mh_lp0 (fun post n i (s : Int64 × (Nat → Int32) × (Nat → Int32) × (Nat → Int32)) => wX_tidy_90 post n s.1 (nI i) C R us ro vl s.2.1 s.2.2.1 op sn lv nu tc ov s.2.2.2) 96
    (fun i s => mh_P90 C R us mk en op sn i s.1 s.2.1 s.2.2.1 s.2.2.2)
    (fun u => ∃ (x : Int64) (m e a : Nat → Int32) (sn' : Nat → Int64), u = (C &&& x, R, us, ro, vl, m, e, op, sn', lv, nu, tc, ov, a) ∧ mh_P90 C R us mk en op sn 96 x m e a ∧ ∀ t, t < 4 → sn' t = sn t &&& x)
    (R, mk, en, al) (mh_P90_0 ha) ?_ ?_
  · rintro i ⟨x, m, e, a⟩ hi hP
    dsimp only at hP
    by_cases hu : us i = 0
    · refine Or.inr ⟨(x, m, e, a), mh_P90_skip hP hu, fun post n hw => ?_⟩
      refine pk_le 96 i (fun z => absurd z (by omega)) (fun _ => ⟨pk_in i 96 hi, ?_⟩)
      rw [nI_clamp (show i < 2 ^ 31 by omega)]
      exact br_t hu (nm_r (nI_1 i) hw)
    · obtain ⟨o1, o2⟩ := hK i hi hu
      obtain ⟨k1, k2⟩ := hP.1 i (fun z => absurd z.1 (by omega))
      have hA := hP.2.2.2.1
      obtain ⟨n1, a1, hs1, H1⟩ := mh_standing C R us ro vl m e op sn lv nu tc ov a o1 hA
      obtain ⟨n2, a2, hs2, H2⟩ := mh_standing_2 C R us ro vl (upd m i n1) e op sn lv nu tc ov a1 o2 hs1.2.1
      refine Or.inr ⟨((x ||| ((1 : Int64) <<< ((upd m i n1 i).toInt64 &&& 63))) ||| ((1 : Int64) <<< ((upd e i n2 i).toInt64 &&& 63)), upd m i n1, upd e i n2, a2), mh_P90_step hP hu hs1 hs2, fun post n hw => ?_⟩
      refine pk_le 96 i (fun z => absurd z (by omega)) (fun _ => ⟨pk_in i 96 hi, ?_⟩)
      rw [nI_clamp (show i < 2 ^ 31 by omega)]
      refine br_f hu ⟨pk_in i 96 hi, ?_⟩
      dsimp only
      rw [k1]
      refine H1 _ ⟨pk_in i 96 hi, nm_e ⟨pk_in i 96 hi, ?_⟩⟩
      dsimp only
      rw [k2]
      exact H2 _ ⟨pk_in i 96 hi, nm_e ⟨pk_in i 96 hi, ⟨pk_in i 96 hi, nm_e (nm_r (nI_1 i) hw)⟩⟩⟩
  · rintro ⟨x, m, e, a⟩ hP
    obtain ⟨u, ⟨sn', e1, hsn⟩, H⟩ := mh_tidy_179 x (C &&& x) R us ro vl m e op sn lv nu tc ov a
    exact ⟨u, ⟨x, m, e, a, sn', e1, hP, hsn⟩, fun post n hp => pk_le 96 96 (fun _ => nm_e (H post hp)) (fun z => absurd z (by omega))⟩
/-- the first loop: ends of versions that never came to be are cleared, versions that nobody sees fall away -/
def mh_P28 (C R : Int64) (us mk en op : Nat → Int32) (sn : Nat → Int64) (i : Nat) (s e : Nat → Int32) : Prop :=
  (∀ v, ¬ (v < i ∧ us v ≠ 0) → s v = us v ∧ e v = en v) ∧
  (∀ v, v < i → us v ≠ 0 → ((mh_over C R (en v) ∧ e v = 0) ∨ (¬ mh_over C R (en v) ∧ e v = en v)) ∧ (s v ≠ 0 ↔ ¬ mh_dd C R op sn (mk v) (e v)))
theorem mh_P28_step {C R : Int64} {us mk en op : Nat → Int32} {sn : Nat → Int64} {s e : Nat → Int32} {i : Nat} {y x : Int32} (h : mh_P28 C R us mk en op sn i s e)
    (hy : (mh_over C R (en i) ∧ y = 0) ∨ (¬ mh_over C R (en i) ∧ y = en i)) (hx : x ≠ 0 ↔ ¬ mh_dd C R op sn (mk i) y) (hu : us i ≠ 0) : mh_P28 C R us mk en op sn (i + 1) (upd s i x) (upd e i y) := by
  obtain ⟨h1, h2⟩ := h
  constructor
  · intro v hv
    have q : v ≠ i := fun z => hv ⟨by omega, by rw [z]; exact hu⟩
    rw [pk_un q, pk_un q]
    exact h1 v (fun z => hv ⟨by omega, z.2⟩)
  · intro v hv hne
    by_cases q : v = i
    · subst q
      rw [pk_us, pk_us]
      exact ⟨hy, hx⟩
    · rw [pk_un q, pk_un q]
      exact h2 v (by omega) hne
theorem mh_P28_skip {C R : Int64} {us mk en op : Nat → Int32} {sn : Nat → Int64} {s e : Nat → Int32} {i : Nat} (h : mh_P28 C R us mk en op sn i s e) (hu : us i = 0) : mh_P28 C R us mk en op sn (i + 1) s e := by
  obtain ⟨h1, h2⟩ := h
  refine ⟨fun v hv => h1 v (fun z => hv ⟨by omega, z.2⟩), fun v hv hne => ?_⟩
  by_cases q : v = i
  · subst q
    exact absurd hu hne
  · exact h2 v (by omega) hne
theorem mh_upd_id {f : Nat → Int32} {i : Nat} : upd f i (f i) = f := by
  funext j
  by_cases q : j = i
  · subst q
    exact pk_us
  · exact pk_un q
/-- what tidying leaves -/
def mh_TD (C R : Int64) (us ro vl mk en op : Nat → Int32) (sn : Nat → Int64) (lv nu tc ov : Nat → Int32) (u : St1) : Prop :=
  ∃ (x : Int64) (us' e1 m e a : Nat → Int32) (sn' : Nat → Int64), u = (C &&& x, R, us', ro, vl, m, e, op, sn', lv, nu, tc, ov, a) ∧ mh_P28 C R us mk en op sn 96 us' e1 ∧ mh_P90 C R us' mk e1 op sn 96 x m e a ∧ ∀ t, t < 4 → sn' t = sn t &&& x
theorem mh_tidy_28 (C R : Int64) (us ro vl mk en op : Nat → Int32) (sn : Nat → Int64) (lv nu tc ov al : Nat → Int32) (hK : ∀ v, v < 96 → us v ≠ 0 → mh_ok (mk v) ∧ mh_ok (en v)) (ha : ∀ p, p < 16 → al p = 0) :
    ∃ u : St1, mh_TD C R us ro vl mk en op sn lv nu tc ov u ∧ ∀ post : St1 → Prop, post u → ∃ n, wX_tidy_28 post R C R n 0 us ro vl mk en op sn lv nu tc ov al := by
  refine mh_lp0 (fun post n i (s : (Nat → Int32) × (Nat → Int32)) => wX_tidy_28 post R C R n (nI i) s.1 ro vl mk s.2 op sn lv nu tc ov al) 96
    (fun i s => mh_P28 C R us mk en op sn i s.1 s.2) (fun u => mh_TD C R us ro vl mk en op sn lv nu tc ov u) (us, en) ⟨fun _ _ => ⟨rfl, rfl⟩, fun v hv => absurd hv (by omega)⟩ ?_ ?_
  · rintro i ⟨s, e⟩ hi hP
    dsimp only at hP
    obtain ⟨k1, k2⟩ := hP.1 i (fun z => absurd z.1 (by omega))
    by_cases hu : us i = 0
    · refine Or.inr ⟨(s, e), mh_P28_skip hP hu, fun post n hw => ?_⟩
      refine pk_le 96 i (fun z => absurd z (by omega)) (fun _ => ⟨pk_in i 96 hi, ?_⟩)
      rw [nI_clamp (show i < 2 ^ 31 by omega)]
      exact br_t (k1.trans hu) (nm_r (nI_1 i) hw)
    · obtain ⟨o1, o2⟩ := hK i hi hu
      by_cases hov : mh_over C R (en i)
      · obtain ⟨x, hx, H⟩ := mh_dead C R s ro vl mk (upd e i 0) op sn lv nu tc ov al hi o1 (by rw [pk_us]; exact mh_ok_0)
        rw [pk_us] at hx
        rcases hx with ⟨rfl, hd⟩ | ⟨rfl, hd⟩
        · refine Or.inr ⟨(upd s i 0, upd e i 0), mh_P28_step hP (Or.inl ⟨hov, rfl⟩) ⟨fun z => absurd rfl z, fun z => absurd hd z⟩ hu, fun post n hw => ?_⟩
          refine pk_le 96 i (fun z => absurd z (by omega)) (fun _ => ⟨pk_in i 96 hi, ?_⟩)
          rw [nI_clamp (show i < 2 ^ 31 by omega)]
          refine br_f (by dsimp only; rw [k1]; exact hu) ⟨pk_in i 96 hi, ?_⟩
          dsimp only
          rw [k2]
          refine mh_over_t o2 hov (br_f (by decide) ⟨pk_in i 96 hi, nm_e ?_⟩)
          unfold wX_tidy_63
          rw [nI_clamp (show i < 2 ^ 31 by omega)]
          exact H _ (br_f (by decide) ⟨pk_in i 96 hi, nm_e (nm_r (nI_1 i) hw)⟩)
        · refine Or.inr ⟨(upd s i 1, upd e i 0), mh_P28_step hP (Or.inl ⟨hov, rfl⟩) ⟨fun _ => hd, fun _ => by decide⟩ hu, fun post n hw => ?_⟩
          refine pk_le 96 i (fun z => absurd z (by omega)) (fun _ => ⟨pk_in i 96 hi, ?_⟩)
          rw [nI_clamp (show i < 2 ^ 31 by omega)]
          refine br_f (by dsimp only; rw [k1]; exact hu) ⟨pk_in i 96 hi, ?_⟩
          dsimp only
          rw [k2]
          refine mh_over_t o2 hov (br_f (by decide) ⟨pk_in i 96 hi, nm_e ?_⟩)
          unfold wX_tidy_63
          rw [nI_clamp (show i < 2 ^ 31 by omega)]
          exact H _ (br_t rfl ⟨pk_in i 96 hi, nm_e (nm_r (nI_1 i) hw)⟩)
      · obtain ⟨x, hx, H⟩ := mh_dead C R s ro vl mk e op sn lv nu tc ov al hi o1 (by rw [k2]; exact o2)
        have ee : upd e i (en i) = e := by rw [← k2]; exact mh_upd_id
        rw [k2] at hx
        rcases hx with ⟨rfl, hd⟩ | ⟨rfl, hd⟩
        · refine Or.inr ⟨(upd s i 0, e), ?_, fun post n hw => ?_⟩
          · have := mh_P28_step (x := 0) hP (Or.inr ⟨hov, rfl⟩) ⟨fun z => absurd rfl z, fun z => absurd hd z⟩ hu
            rw [ee] at this
            exact this
          · refine pk_le 96 i (fun z => absurd z (by omega)) (fun _ => ⟨pk_in i 96 hi, ?_⟩)
            rw [nI_clamp (show i < 2 ^ 31 by omega)]
            refine br_f (by dsimp only; rw [k1]; exact hu) ⟨pk_in i 96 hi, ?_⟩
            dsimp only
            rw [k2]
            refine mh_over_f o2 hov (br_t rfl ?_)
            unfold wX_tidy_63
            rw [nI_clamp (show i < 2 ^ 31 by omega)]
            exact H _ (br_f (by decide) ⟨pk_in i 96 hi, nm_e (nm_r (nI_1 i) hw)⟩)
        · refine Or.inr ⟨(upd s i 1, e), ?_, fun post n hw => ?_⟩
          · have := mh_P28_step (x := 1) hP (Or.inr ⟨hov, rfl⟩) ⟨fun _ => hd, fun _ => by decide⟩ hu
            rw [ee] at this
            exact this
          · refine pk_le 96 i (fun z => absurd z (by omega)) (fun _ => ⟨pk_in i 96 hi, ?_⟩)
            rw [nI_clamp (show i < 2 ^ 31 by omega)]
            refine br_f (by dsimp only; rw [k1]; exact hu) ⟨pk_in i 96 hi, ?_⟩
            dsimp only
            rw [k2]
            refine mh_over_f o2 hov (br_t rfl ?_)
            unfold wX_tidy_63
            rw [nI_clamp (show i < 2 ^ 31 by omega)]
            exact H _ (br_t rfl ⟨pk_in i 96 hi, nm_e (nm_r (nI_1 i) hw)⟩)
  · rintro ⟨s, e1⟩ hP
    dsimp only at hP
    obtain ⟨u, ⟨x, m, e, a, sn', q1, q2, q3⟩, H⟩ := mh_tidy_90 C R s ro vl mk e1 op sn lv nu tc ov al (by
      intro v hv hne
      by_cases q : us v = 0
      · exact absurd ((hP.1 v (fun z => z.2 q)).1.trans q) hne
      · obtain ⟨o1, o2⟩ := hK v hv q
        refine ⟨o1, ?_⟩
        rcases (hP.2 v hv q).1 with ⟨_, z⟩ | ⟨_, z⟩
        · rw [z]
          exact mh_ok_0
        · rw [z]
          exact o2) ha
    exact ⟨u, ⟨x, s, e1, m, e, a, sn', q1, hP, q2, q3⟩, fun post n hp => pk_le 96 96 (fun _ => H post hp) (fun z => absurd z (by omega))⟩
theorem mh_tidy0 (C R : Int64) (us ro vl mk en op : Nat → Int32) (sn : Nat → Int64) (lv nu tc ov al : Nat → Int32) (hK : ∀ v, v < 96 → us v ≠ 0 → mh_ok (mk v) ∧ mh_ok (en v)) :
    ∃ u : St1, mh_TD C R us ro vl mk en op sn lv nu tc ov u ∧ ∀ post : St1 → Prop, post u → wpX_tidy post (C, R, us, ro, vl, mk, en, op, sn, lv, nu, tc, ov, al) := by
  refine mh_lp0 (fun post n i (a : Nat → Int32) => wX_tidy_2 post C R n (nI i) us ro vl mk en op sn lv nu tc ov a) 16 (fun i a => ∀ p, p < i → a p = 0) (fun u => mh_TD C R us ro vl mk en op sn lv nu tc ov u) al (fun p hp => absurd hp (by omega)) ?_ ?_
  · intro i a hi hP
    refine Or.inr ⟨upd a i 0, fun p hp => ?_, fun post n hw => ?_⟩
    · by_cases q : p = i
      · subst q
        exact pk_us
      · rw [pk_un q]
        exact hP p (by omega)
    · refine pk_le 16 i (fun z => absurd z (by omega)) (fun _ => ⟨pk_in i 16 hi, ?_⟩)
      rw [nI_clamp (show i < 2 ^ 31 by omega)]
      exact nm_e (nm_r (nI_1 i) hw)
  · intro a hP
    obtain ⟨u, hu, H⟩ := mh_tidy_28 C R us ro vl mk en op sn lv nu tc ov a hK hP
    exact ⟨u, hu, fun post n hp => pk_le 16 16 (fun _ => H post hp) (fun z => absurd z (by omega))⟩
end
section
/-! tidying keeps what is seen; a new number -/
/-- a number that can't be given out -/
def mh_used (C R : Int64) (us mk en : Nat → Int32) (n : Int32) : Prop := mh_st C n ∨ mh_st R n ∨ (n ≠ 0 ∧ ∃ v, mh_U us v ∧ (mk v = n ∨ en v = n))
/-- everybody sees the same versions -/
def mh_EV (op lv nu : Nat → Int32) (C : Int64) (us mk en : Nat → Int32) (sn : Nat → Int64) (C' : Int64) (us' mk' en' : Nat → Int32) (sn' : Nat → Int64) : Prop :=
  (∀ v, mh_Q (mh_U us') mk' en' (mh_st C') v ↔ mh_Q (mh_U us) mk en (mh_st C) v) ∧
  ∀ a j, mh_sl op lv a j → ∀ v, mh_Q (mh_U us') mk' en' (mh_VS (mh_sn sn') (mh_nu nu) a j) v ↔ mh_Q (mh_U us) mk en (mh_VS (mh_sn sn) (mh_nu nu) a j) v
theorem mh_EV_refl {op lv nu : Nat → Int32} {C : Int64} {us mk en : Nat → Int32} {sn : Nat → Int64} : mh_EV op lv nu C us mk en sn C us mk en sn := ⟨fun _ => Iff.rfl, fun _ _ _ _ => Iff.rfl⟩
theorem mh_tidy (C R : Int64) (us ro vl mk en op : Nat → Int32) (sn : Nat → Int64) (lv nu tc ov al : Nat → Int32)
    (hJ : mh_J (mh_st C) (mh_st R) (mh_U us) ro mk en (mh_sl op lv) (mh_sn sn) (mh_nu nu) (mh_tt tc) (mh_ov ov)) (hK1 : mh_K1 us ro mk en) (hK2 : mh_K2 op lv nu tc) :
    ∃ (C' : Int64) (us' mk' en' : Nat → Int32) (sn' : Nat → Int64) (al' : Nat → Int32),
      (mh_J (mh_st C') (mh_st R) (mh_U us') ro mk' en' (mh_sl op lv) (mh_sn sn') (mh_nu nu) (mh_tt tc) (mh_ov ov) ∧ mh_K1 us' ro mk' en' ∧ (∀ v, mh_U us' v → mh_U us v) ∧
        mh_EV op lv nu C us mk en sn C' us' mk' en' sn' ∧ ∃ f : Nat → Int32, ∀ n, mh_used C' R us' mk' en' n → ∃ i, i < 31 ∧ f i = n) ∧
      ∀ post : St1 → Prop, post (C', R, us', ro, vl, mk', en', op, sn', lv, nu, tc, ov, al') → wpX_tidy post (C, R, us, ro, vl, mk, en, op, sn, lv, nu, tc, ov, al) := by
  obtain ⟨u, ⟨x, us', e1, m, e, a, sn', rfl, ⟨p1, p2⟩, ⟨q1, q2, q3, q4, q5⟩, hsn⟩, H⟩ := mh_tidy0 C R us ro vl mk en op sn lv nu tc ov al (fun v hv hne => ⟨(hK1 v ⟨hv, hne⟩).1, (hK1 v ⟨hv, hne⟩).2.1⟩)
  have hUU : ∀ v, mh_U us' v → mh_U us v := by
    rintro v ⟨hv, hne⟩
    refine ⟨hv, fun z => hne ?_⟩
    rw [(p1 v (fun y => y.2 z)).1, z]
  have hnd : ∀ v, mh_U us' v → ¬ mh_dd C R op sn (mk v) (e1 v) := fun v hv => (p2 v hv.1 (hUU v hv).2).2.mp hv.2
  have he1 : ∀ v, mh_U us v → (mh_over C R (en v) ∧ e1 v = 0) ∨ (¬ mh_over C R (en v) ∧ e1 v = en v) := fun v hv => (p2 v hv.1 hv.2).1
  have hJ' := hJ
  obtain ⟨a0, a1, a2, a3, a4, a5, a6, a7, a8, a9, a10⟩ := hJ'
  have op0 : ∀ t, mh_sl op lv t 0 → t < 4 ∧ op t ≠ 0 := fun t h => ⟨h.1, h.2.1⟩
  have xm : ∀ v, mh_U us' v → ∀ n, n ≠ 0 → (m v = n ∨ e v = n) → mh_st x n := fun v hv n hn h => (q3 n).mpr (Or.inr ⟨hn, v, hv, h⟩)
  have hm : ∀ v, mh_U us' v → mh_Em (mh_st C) (mh_sl op lv) (mh_sn sn) (mk v) (m v) := by
    intro v hv
    rcases (q2 v hv.1 hv.2).1 with h | ⟨h1, h2, h3⟩ | ⟨h1, h2, h3⟩
    · exact Or.inl h
    · exact Or.inr (Or.inl ⟨h1, h2, fun t ht => h3 t (op0 t ht).1 (op0 t ht).2⟩)
    · exact Or.inr (Or.inr ⟨h1, h2, fun t ht => h3 t (op0 t ht).1 (op0 t ht).2⟩)
  have he : ∀ v, mh_U us' v → mh_Ee (mh_st C) (mh_st R) (mh_sl op lv) (mh_sn sn) (en v) (e v) := by
    intro v hv
    have hE := (q2 v hv.1 hv.2).2.1
    rcases he1 v (hUU v hv) with ⟨h1, h2⟩ | ⟨h1, h2⟩
    · rw [h2] at hE
      have e0 : e v = 0 := by
        rcases hE with ⟨z, _⟩ | ⟨z, _⟩ | ⟨z, _⟩
        · exact z
        · exact absurd z mh_st_0
        · exact absurd z mh_st_0
      exact Or.inr (Or.inl ⟨h1.2.1, h1.2.2, e0⟩)
    · have hd := hnd v hv
      rw [h2] at hE hd
      rcases hE with h | ⟨g1, g2, g3⟩ | ⟨g1, g2, g3⟩
      · exact Or.inl h
      · exfalso
        by_cases c : mk v = 0 ∨ mh_st C (mk v)
        · exact hd (Or.inr (Or.inr ⟨g1, c, fun t ht ho z => z.2 (g3 t ht ho)⟩))
        · have c0 : mk v ≠ 0 := fun z => c (Or.inl z)
          have c1 : ¬ mh_st C (mk v) := fun z => c (Or.inr z)
          have c2 : mh_st R (mk v) := Classical.byContradiction (fun z => hd (Or.inl ⟨c0, c1, z⟩))
          obtain ⟨t, k, hs, en1⟩ := (a1 _).mp c2
          exact (a8 v (hUU v hv) t k hs en1.symm).1 g1
      · exact Or.inr (Or.inr ⟨g1, g2, fun t ht => g3 t (op0 t ht).1 (op0 t ht).2⟩)
  have hrem : ∀ v, mh_U us v → ¬ mh_U us' v → ¬ mh_Q (mh_U us) mk en (mh_st C) v ∧ ∀ t j, mh_sl op lv t j → ¬ mh_Q (mh_U us) mk en (mh_VS (mh_sn sn) (mh_nu nu) t j) v := by
    intro v hv hnv
    have hdd : mh_dd C R op sn (mk v) (e1 v) := by
      apply Classical.byContradiction
      intro z
      exact hnv ⟨hv.1, (p2 v hv.1 hv.2).2.mpr z⟩
    rcases hdd with d | ⟨d1, d2⟩ | ⟨d1, d2, d3⟩
    · refine ⟨fun z => z.2.1.elim d.1 d.2.1, fun t j hs z => ?_⟩
      have hs0 := (a2 t j hs).2 0 (Nat.zero_le j)
      rcases z.2.1 with y | y | ⟨k, hk, y⟩
      · exact d.1 y
      · exact d.2.1 (a4 t hs0 _ y)
      · exact d.2.2 ((a1 _).mpr ⟨t, k, (a2 t j hs).2 k hk, y⟩)
    · have ee : e1 v = en v := by
        rcases he1 v hv with ⟨_, h2⟩ | ⟨_, h2⟩
        · exact absurd (d1.trans h2) d2
        · exact h2
      rw [ee] at d1
      refine ⟨fun z => ?_, fun t j hs z => ?_⟩
      · rcases z.2.1 with y | y
        · exact d2 y
        · exact z.2.2 (d1 ▸ y)
      · rcases z.2.1 with y | y
        · exact d2 y
        · exact z.2.2 (d1 ▸ y)
    · have ee : e1 v = en v := by
        rcases he1 v hv with ⟨_, h2⟩ | ⟨_, h2⟩
        · exact absurd h2 (mh_st_ne d1)
        · exact h2
      rw [ee] at d1 d3
      refine ⟨fun z => z.2.2 d1, fun t j hs z => ?_⟩
      have hs0 := (a2 t j hs).2 0 (Nat.zero_le j)
      refine d3 t hs.1 hs.2.1 ⟨?_, fun y => z.2.2 (Or.inl y)⟩
      rcases z.2.1 with y | y | ⟨k, hk, y⟩
      · exact Or.inl y
      · exact Or.inr y
      · rcases d2 with w | w
        · exact Or.inl w
        · exact absurd ((a1 _).mpr ⟨t, k, (a2 t j hs).2 k hk, y⟩) (a0 _ w).2
  have key := mh_T_ren (Cs' := mh_st (C &&& x)) (sn' := mh_sn sn') hJ hUU hm he hrem (fun n h => ((mh_st_and _ _ _).mp h).1)
    (by
      intro t ht n h
      unfold mh_sn at h
      rw [hsn t ht.1, mh_st_and] at h
      exact ⟨h.1, (mh_st_and _ _ _).mpr ⟨a4 t ht n h.1, h.2⟩⟩)
    (fun v hv => ⟨fun h => (mh_st_and _ _ _).mpr ⟨h, xm v hv _ (mh_st_ne h) (Or.inl rfl)⟩, fun h => (mh_st_and _ _ _).mpr ⟨h, xm v hv _ (mh_st_ne h) (Or.inr rfl)⟩⟩)
    (by
      intro t ht v hv
      unfold mh_sn
      rw [hsn t ht.1]
      exact ⟨fun h => (mh_st_and _ _ _).mpr ⟨h, xm v hv _ (mh_st_ne h) (Or.inl rfl)⟩, fun h => (mh_st_and _ _ _).mpr ⟨h, xm v hv _ (mh_st_ne h) (Or.inr rfl)⟩⟩)
  refine ⟨C &&& x, us', m, e, sn', a, ⟨key.1, ?_, hUU, key.2, ?_⟩, H⟩
  · intro v hv
    obtain ⟨_, _, o1, o2⟩ := q2 v hv.1 hv.2
    exact ⟨o1, o2, (hK1 v (hUU v hv)).2.2⟩
  · have fR : ∀ n, mh_st R n → ∃ i, i < 16 ∧ nu i = n := by
      intro n h
      obtain ⟨t, k, hs, en1⟩ := (a1 n).mp h
      obtain ⟨l, h4, hl, _⟩ := hK2 t hs.1 hs.2.1
      have := (mh_sl_iff hs.1 hs.2.1 hl h4 k).mp hs
      have := hs.1
      exact ⟨t * 4 + k, by omega, en1⟩
    have fM : ∀ v, mh_U us' v → ∀ n, n ≠ 0 → (m v = n ∨ e v = n) → mh_st R n ∨ ∃ p, p < 15 ∧ a p = n := by
      intro v hv n hn h
      rcases h with h | h
      · rcases (q2 v hv.1 hv.2).1 with ⟨g1, g2⟩ | ⟨_, g1, _⟩ | ⟨_, g1, _⟩
        · rw [h] at g1
          rw [← g1] at g2
          left
          apply Classical.byContradiction
          intro z
          exact hnd v hv (Or.inl (by rw [← g1]; exact ⟨hn, g2, z⟩))
        · exact absurd (h.symm.trans g1) hn
        · rw [h] at g1
          right
          have := (q5 v hv.1 hv.2).1
          rw [h] at this
          exact this g1
      · rcases (q2 v hv.1 hv.2).2.1 with ⟨g1, g2⟩ | ⟨_, g1, _⟩ | ⟨_, g1, _⟩
        · rw [h] at g1
          rw [← g1] at g2
          left
          apply Classical.byContradiction
          intro z
          rcases he1 v (hUU v hv) with ⟨_, w⟩ | ⟨w1, w2⟩
          · exact hn (g1.trans w)
          · exact w1 (by rw [← w2, ← g1]; exact ⟨hn, g2, z⟩)
        · exact absurd (h.symm.trans g1) hn
        · rw [h] at g1
          right
          have := (q5 v hv.1 hv.2).2
          rw [h] at this
          exact this g1
    have fin : ∀ n, (mh_st R n ∨ ∃ p, p < 15 ∧ a p = n) → ∃ i, i < 31 ∧ (fun i => if i < 16 then nu i else a (i - 16)) i = n := by
      rintro n (h | ⟨p, hp, h⟩)
      · obtain ⟨i, hi, z⟩ := fR n h
        exact ⟨i, by omega, by show (if i < 16 then nu i else a (i - 16)) = n; rw [if_pos hi, z]⟩
      · exact ⟨16 + p, by omega, by show (if 16 + p < 16 then nu (16 + p) else a (16 + p - 16)) = n; rw [if_neg (by omega), Nat.add_sub_cancel_left, h]⟩
    refine ⟨fun i => if i < 16 then nu i else a (i - 16), fun n hn => fin n ?_⟩
    rcases hn with hn | hn | ⟨hn, v, hv, h⟩
    · obtain ⟨g1, g2⟩ := (mh_st_and _ _ _).mp hn
      rcases (q3 n).mp g2 with z | ⟨z, v, hv, y⟩
      · exact Or.inl z
      · exact fM v hv n z y
    · exact Or.inl hn
    · exact fM v hv n hn h
theorem mh_freeNumber (C R : Int64) (us ro vl mk en op : Nat → Int32) (sn : Nat → Int64) (lv nu tc ov al : Nat → Int32) (hK : mh_K1 us ro mk en) :
    ∃ z : Int32, ((z = 0 ∧ ∀ k, 1 ≤ k → k < 63 → mh_used C R us mk en (nI k)) ∨ (mh_ok z ∧ z ≠ 0 ∧ ¬ mh_used C R us mk en z)) ∧ ∀ post : Int32 → Prop, post z → wpX_freeNumber post (C, R, us, ro, vl, mk, en, op, sn, lv, nu, tc, ov, al) := by
  have main := mh_lp0 (fun post n i (x : Int64) => wX_freeNumber_12 post C R us ro vl mk en op sn lv nu tc ov al n x (nI i)) 96
    (fun i x => ∀ n, mh_st x n ↔ mh_st C n ∨ mh_st R n ∨ (n ≠ 0 ∧ ∃ v, (v < i ∧ us v ≠ 0) ∧ (mk v = n ∨ en v = n)))
    (fun z => (z = 0 ∧ ∀ k, 1 ≤ k → k < 63 → mh_used C R us mk en (nI k)) ∨ (mh_ok z ∧ z ≠ 0 ∧ ¬ mh_used C R us mk en z)) (C ||| R) ?_ ?_ ?_
  · obtain ⟨z, hz, H⟩ := main
    exact ⟨z, hz, fun post hp => nm_e (H post hp)⟩
  · intro n
    rw [mh_st_or]
    constructor
    · rintro (z | z)
      · exact Or.inl z
      · exact Or.inr (Or.inl z)
    · rintro (z | z | ⟨_, v, hv, _⟩)
      · exact Or.inl z
      · exact Or.inr z
      · exact absurd hv.1 (by omega)
  · intro i x hi hP
    by_cases hu : us i = 0
    · refine Or.inr ⟨x, fun n => ?_, fun post n hw => ?_⟩
      · rw [hP]
        constructor
        · rintro (z | z | ⟨z, v, hv, y⟩)
          · exact Or.inl z
          · exact Or.inr (Or.inl z)
          · exact Or.inr (Or.inr ⟨z, v, ⟨by omega, hv.2⟩, y⟩)
        · rintro (z | z | ⟨z, v, hv, y⟩)
          · exact Or.inl z
          · exact Or.inr (Or.inl z)
          · by_cases q : v = i
            · subst q
              exact absurd hu hv.2
            · exact Or.inr (Or.inr ⟨z, v, ⟨by omega, hv.2⟩, y⟩)
      · refine pk_le 96 i (fun z => absurd z (by omega)) (fun _ => ⟨pk_in i 96 hi, ?_⟩)
        rw [nI_clamp (show i < 2 ^ 31 by omega)]
        exact br_t hu (nm_r (nI_1 i) hw)
    · obtain ⟨o1, o2, _⟩ := hK i ⟨hi, hu⟩
      refine Or.inr ⟨(x ||| ((1 : Int64) <<< ((mk i).toInt64 &&& 63))) ||| ((1 : Int64) <<< ((en i).toInt64 &&& 63)), fun n => ?_, fun post n hw => ?_⟩
      · rw [mh_st_or, mh_st_or, hP, mh_st_bit o1, mh_st_bit o2]
        constructor
        · rintro (((z | z | ⟨z, v, hv, y⟩) | ⟨z, y⟩) | ⟨z, y⟩)
          · exact Or.inl z
          · exact Or.inr (Or.inl z)
          · exact Or.inr (Or.inr ⟨z, v, ⟨by omega, hv.2⟩, y⟩)
          · exact Or.inr (Or.inr ⟨y, i, ⟨by omega, hu⟩, Or.inl z.symm⟩)
          · exact Or.inr (Or.inr ⟨y, i, ⟨by omega, hu⟩, Or.inr z.symm⟩)
        · rintro (z | z | ⟨z, v, hv, y⟩)
          · exact Or.inl (Or.inl (Or.inl z))
          · exact Or.inl (Or.inl (Or.inr (Or.inl z)))
          · by_cases q : v = i
            · subst q
              rcases y with y | y
              · exact Or.inl (Or.inr ⟨y.symm, z⟩)
              · exact Or.inr ⟨y.symm, z⟩
            · exact Or.inl (Or.inl (Or.inr (Or.inr ⟨z, v, ⟨by omega, hv.2⟩, y⟩)))
      · refine pk_le 96 i (fun z => absurd z (by omega)) (fun _ => ⟨pk_in i 96 hi, ?_⟩)
        rw [nI_clamp (show i < 2 ^ 31 by omega)]
        exact br_f hu ⟨pk_in i 96 hi, ⟨pk_in i 96 hi, nm_e (nm_r (nI_1 i) hw)⟩⟩
  · intro x hP
    have hx : ∀ n, mh_st x n ↔ mh_used C R us mk en n := hP
    obtain ⟨z, hz, H⟩ := mh_lp (σ := Unit) (fun post n i _ => wX_freeNumber_59 post x C R us ro vl mk en op sn lv nu tc ov al n (nI i)) 63 (fun i _ => 1 ≤ i ∧ ∀ k, 1 ≤ k → k < i → mh_used C R us mk en (nI k))
      (fun z => (z = 0 ∧ ∀ k, 1 ≤ k → k < 63 → mh_used C R us mk en (nI k)) ∨ (mh_ok z ∧ z ≠ 0 ∧ ¬ mh_used C R us mk en z)) (by
        intro i _ hi hQ
        obtain ⟨h0, hQ⟩ := hQ
        have ok : mh_ok (nI i) := ⟨i, hi, rfl⟩
        have ne : nI i ≠ 0 := nI_ne0 (by omega) (by omega)
        by_cases b : mh_st x (nI i)
        · refine Or.inr ⟨(), ⟨by omega, fun k h1 h2 => ?_⟩, fun post n hw => pk_le 63 i (fun z => absurd z (by omega)) (fun _ => br_f (fun z => (mh_mb_0 _ _).mp z b.2.2) (nm_r (nI_1 i) hw))⟩
          by_cases q : k = i
          · subst q
            exact (hx _).mp b
          · exact hQ k h1 (by omega)
        · exact Or.inl ⟨nI i, Or.inr ⟨ok, ne, fun z => b ((hx _).mpr z)⟩, fun post n hp => pk_le 63 i (fun z => absurd z (by omega)) (fun _ => br_t ((mh_mb_0 _ _).mpr (fun z => b ⟨ok, ne, z⟩)) hp)⟩) (by
        intro _ hQ
        exact ⟨0, Or.inl ⟨rfl, hQ.2⟩, fun post n hp => pk_le 63 63 (fun _ => hp) (fun z => absurd z (by omega))⟩) 62 1 () (by omega) ⟨by omega, fun k h1 h2 => absurd h1 (by omega)⟩
    exact ⟨z, hz, fun post n hp => pk_le 96 96 (fun _ => H post hp) (fun z => absurd z (by omega))⟩
theorem mh_newNumber (C R : Int64) (us ro vl mk en op : Nat → Int32) (sn : Nat → Int64) (lv nu tc ov al : Nat → Int32)
    (hJ : mh_J (mh_st C) (mh_st R) (mh_U us) ro mk en (mh_sl op lv) (mh_sn sn) (mh_nu nu) (mh_tt tc) (mh_ov ov)) (hK1 : mh_K1 us ro mk en) (hK2 : mh_K2 op lv nu tc) :
    ∃ (n : Int32) (C' : Int64) (us' mk' en' : Nat → Int32) (sn' : Nat → Int64) (al' : Nat → Int32),
      (mh_J (mh_st C') (mh_st R) (mh_U us') ro mk' en' (mh_sl op lv) (mh_sn sn') (mh_nu nu) (mh_tt tc) (mh_ov ov) ∧ mh_K1 us' ro mk' en' ∧ (∀ v, mh_U us' v → mh_U us v) ∧
        mh_EV op lv nu C us mk en sn C' us' mk' en' sn' ∧ mh_ok n ∧ n ≠ 0 ∧ ¬ mh_used C' R us' mk' en' n) ∧
      ∀ post : Int32 → St1 → Prop, post n (C', R ||| ((1 : Int64) <<< (n.toInt64 &&& 63)), us', ro, vl, mk', en', op, sn', lv, nu, tc, ov, al') → wpX_newNumber post (C, R, us, ro, vl, mk, en, op, sn, lv, nu, tc, ov, al) := by
  obtain ⟨z, hz, H⟩ := mh_freeNumber C R us ro vl mk en op sn lv nu tc ov al hK1
  rcases hz with ⟨z0, _⟩ | ⟨z1, z2, z3⟩
  · obtain ⟨C', us', mk', en', sn', al', ⟨t1, t2, t3, t4, f, t5⟩, HT⟩ := mh_tidy C R us ro vl mk en op sn lv nu tc ov al hJ hK1 hK2
    obtain ⟨y, hy, H2⟩ := mh_freeNumber C' R us' ro vl mk' en' op sn' lv nu tc ov al' t2
    rcases hy with ⟨_, y1⟩ | ⟨y1, y2, y3⟩
    · exfalso
      have := mh_pig 31 62 (fun i => (f i).toNatClampNeg - 1) (by
        intro k hk
        obtain ⟨i, hi, e⟩ := t5 _ (y1 (k + 1) (by omega) (by omega))
        refine ⟨i, hi, ?_⟩
        show (f i).toNatClampNeg - 1 = k
        rw [e, nI_clamp (by omega)]
        omega)
      omega
    · exact ⟨y, C', us', mk', en', sn', al', ⟨t1, t2, t3, t4, y1, y2, y3⟩, fun post hp => H _ (br_t z0 (HT _ (H2 _ (nm_e hp))))⟩
  · exact ⟨z, C, us, mk, en, sn, al, ⟨hJ, hK1, fun _ h => h, mh_EV_refl, z1, z2, z3⟩, fun post hp => H _ (br_f z2 (nm_e hp))⟩
end
section
/-! transactions begin and end -/
def mh_IS (c : Nat) (u : St1) : Prop := match u with
  | (f1, f2, b1, b2, _, b4, b5, b6, b7, b8, b9, b10, b11, _) => mh_I c f1 f2 b1 b2 b4 b5 b6 b7 b8 b9 b10 b11
section
variable {C R : Int64} {us ro vl mk en op : Nat → Int32} {sn : Nat → Int64} {lv nu tc ov al : Nat → Int32} {c : Nat}
theorem mh_I_up {c' : Nat} (h : mh_I c C R us ro mk en op sn lv nu tc ov) (hc : c ≤ c') : mh_I c' C R us ro mk en op sn lv nu tc ov :=
  ⟨h.1, h.2.1, h.2.2.1, Nat.le_trans h.2.2.2 hc⟩
theorem mh_slK (hK : mh_K2 op lv nu tc) {a k : Nat} (h : mh_sl op lv a k) : k < 4 := by
  obtain ⟨l, h4, hl, _⟩ := hK a h.1 h.2.1
  have := (mh_sl_iff h.1 h.2.1 hl h4 k).mp h
  omega
theorem mh_sl_close {t : Nat} (a k : Nat) : mh_sl (upd op t 0) lv a k ↔ mh_sl op lv a k ∧ a ≠ t := by
  unfold mh_sl
  by_cases q : a = t
  · subst q
    rw [pk_us]
    exact ⟨fun z => absurd rfl z.2.1, fun z => absurd rfl z.2⟩
  · rw [pk_un q]
    exact ⟨fun z => ⟨z, q⟩, fun z => z.1⟩
theorem mh_K2_close {t : Nat} (hK : mh_K2 op lv nu tc) : mh_K2 (upd op t 0) lv nu tc := by
  intro a ha ho
  by_cases q : a = t
  · subst q
    rw [pk_us] at ho
    exact absurd rfl ho
  · rw [pk_un q] at ho
    exact hK a ha ho
theorem mh_sizeOf {post : Int32 → Prop} {x : Int32} (hp : post (mh_so x 8)) : wpX_sizeOf post (C, R, us, ro, vl, mk, en, op, sn, lv, nu, tc, ov, al) x := by
  have h : ∃ X, X = mh_so x 8 ∧ ∀ post : Int32 → Prop, post X → wpX_sizeOf post (C, R, us, ro, vl, mk, en, op, sn, lv, nu, tc, ov, al) x := by
    refine mh_lp0 (fun post n i (y : Int32) => wX_sizeOf_4 post x C R us ro vl mk en op sn lv nu tc ov al n y (nI i)) 8 (fun i y => y = mh_so x i) (fun X => X = mh_so x 8) 0 rfl ?_ ?_
    · intro i y hi hP
      refine Or.inr ⟨y + ((x >>> (nI i &&& 31)) &&& 1), ?_, fun post n hw => ?_⟩
      · rw [hP]
        rfl
      · exact pk_le 8 i (fun z => absurd z (by omega)) (fun _ => nm_e (nm_r (nI_1 i) hw))
    · intro y hP
      exact ⟨y, hP, fun post n hp => pk_le 8 8 (fun _ => hp) (fun z => absurd z (by omega))⟩
  obtain ⟨X, e, H⟩ := h
  subst e
  exact H post hp
/-- what a transaction's own numbers are, as slots -/
theorem mh_own_sl {t l : Nat} {X : Int64} (ht : t < 4) (ho : op t ≠ 0) (hl : lv t = nI l) (h4 : l < 4) (hX : ∀ n, mh_st X n ↔ ∃ k, k ≤ l ∧ mh_nu nu t k = n) (n : Int32) : mh_st X n ↔ ∃ k, mh_sl op lv t k ∧ mh_nu nu t k = n := by
  rw [hX]
  constructor
  · rintro ⟨k, hk, e⟩
    exact ⟨k, (mh_sl_iff ht ho hl h4 k).mpr hk, e⟩
  · rintro ⟨k, hk, e⟩
    exact ⟨k, (mh_sl_iff ht ho hl h4 k).mp hk, e⟩
theorem mh_abort_o (hI : mh_I c C R us ro mk en op sn lv nu tc ov) {t : Nat} (ht : t < 4) (ho : op t ≠ 0) :
    ∃ (R' : Int64) (l : Nat), mh_I c C R' us ro mk en (upd op t 0) sn lv nu tc ov ∧ (l < 4 ∧ lv t = nI l) ∧
      ∀ post : Int32 → St1 → Prop, post (mh_so (mh_cb (fun k => tc (t * 4 + k)) (l + 1)) 8) (C, R', us, ro, vl, mk, en, upd op t 0, sn, lv, nu, tc, ov, al) → wpX_abort post (C, R, us, ro, vl, mk, en, op, sn, lv, nu, tc, ov, al) (nI t) := by
  obtain ⟨hJ, hK1, hK2, hc⟩ := hI
  obtain ⟨l, h4, hl, hn⟩ := hK2 t ht ho
  obtain ⟨X, hX, HX⟩ := mh_ownSet C R us ro vl mk en op sn lv nu tc ov al ht hl h4 hn
  have hX' := mh_own_sl ht ho hl h4 hX
  refine ⟨R &&& (X ^^^ (-1)), l, ⟨?_, hK1, mh_K2_close hK2, hc⟩, ⟨h4, hl⟩, fun post hp => ?_⟩
  · refine mh_T_less hJ (fun a k h => ((mh_sl_close a k).mp h).1) (fun a k h j hj => ?_) (fun n => ?_)
    · obtain ⟨h1, h2⟩ := (mh_sl_close a k).mp h
      exact (mh_sl_close a j).mpr ⟨(hJ.2.2.1 a k h1).2 j hj, h2⟩
    · rw [mh_st_del, hX', mh_run_less hJ t n]
      constructor
      · rintro ⟨a, k, h, e⟩
        exact ⟨a, k, (mh_sl_close a k).mpr h, e⟩
      · rintro ⟨a, k, h, e⟩
        exact ⟨a, k, (mh_sl_close a k).mp h, e⟩
  · unfold wpX_abort
    refine mh_ref_o ht ho (br_t (by decide) ?_)
    unfold wpX_close
    refine mh_changedBy ht hl h4 (HX _ (nm_e ⟨pk_in t 4 ht, ?_⟩))
    rw [nI_clamp (show t < 2 ^ 31 by omega)]
    refine nm_e (br_t rfl ?_)
    unfold wX_close_81
    exact mh_sizeOf hp
theorem mh_abort_c {t : Nat} (ht : t < 4) (ho : op t = 0) {post : Int32 → St1 → Prop} (hp : post (-2) (C, R, us, ro, vl, mk, en, op, sn, lv, nu, tc, ov, al)) : wpX_abort post (C, R, us, ro, vl, mk, en, op, sn, lv, nu, tc, ov, al) (nI t) := by
  unfold wpX_abort
  exact mh_ref_c ht ho (br_f (by decide) hp)
theorem mh_abort (hI : mh_I c C R us ro mk en op sn lv nu tc ov) (x : Int32) :
    ∃ (r : Int32) (u : St1), mh_IS c u ∧ ∀ post : Int32 → St1 → Prop, post r u → wpX_abort post (C, R, us, ro, vl, mk, en, op, sn, lv, nu, tc, ov, al) x := by
  rcases mh_arg x (n := 4) (by decide) with h | ⟨t, ht, rfl⟩
  · refine ⟨-1, (C, R, us, ro, vl, mk, en, op, sn, lv, nu, tc, ov, al), hI, fun post hp => ?_⟩
    unfold wpX_abort
    exact mh_ref_b h (br_f (by decide) hp)
  · by_cases ho : op t = 0
    · exact ⟨-2, (C, R, us, ro, vl, mk, en, op, sn, lv, nu, tc, ov, al), hI, fun post hp => mh_abort_c ht ho hp⟩
    · obtain ⟨R', l, h1, _, H⟩ := mh_abort_o (vl := vl) (al := al) hI ht ho
      exact ⟨_, (C, R', us, ro, vl, mk, en, upd op t 0, sn, lv, nu, tc, ov, al), h1, H⟩
theorem mh_close_53 (x : Int32) (C R : Int64) (us ro vl mk en op : Nat → Int32) (sn : Nat → Int64) (lv nu tc ov al : Nat → Int32) :
    ∃ p : Int32 × St1, (∃ ov', p = (mh_so x 8, (C, R, us, ro, vl, mk, en, op, sn, lv, nu, tc, ov', al)) ∧ ∀ a, a < 4 → ov' a = ov a ||| x) ∧
      ∀ post : Int32 × St1 → Prop, post p → ∃ n, wX_close_53 (fun r u => post (r, u)) x C R n 0 us ro vl mk en op sn lv nu tc ov al := by
  refine mh_lp0 (fun post n i (s : Nat → Int32) => wX_close_53 (fun r u => post (r, u)) x C R n (nI i) us ro vl mk en op sn lv nu tc s al) 4 (fun i s => (∀ a, a < i → s a = ov a ||| x) ∧ ∀ a, i ≤ a → s a = ov a) (fun p => ∃ ov', p = (mh_so x 8, (C, R, us, ro, vl, mk, en, op, sn, lv, nu, tc, ov', al)) ∧ ∀ a, a < 4 → ov' a = ov a ||| x) ov ⟨fun a h => absurd h (by omega), fun a _ => rfl⟩ ?_ ?_
  · intro i s hi hP
    refine Or.inr ⟨upd s i (s i ||| x), ⟨fun a ha => ?_, fun a ha => ?_⟩, fun post n hw => ?_⟩
    · by_cases q : a = i
      · subst q
        rw [pk_us, hP.2 a (Nat.le_refl a)]
      · rw [pk_un q]
        exact hP.1 a (by omega)
    · rw [pk_un (show a ≠ i by omega)]
      exact hP.2 a (by omega)
    · refine pk_le 4 i (fun z => absurd z (by omega)) (fun _ => ⟨pk_in i 4 hi, pk_in i 4 hi, ?_⟩)
      rw [nI_clamp (show i < 2 ^ 31 by omega)]
      exact nm_e (nm_r (nI_1 i) hw)
  · intro s hP
    refine ⟨_, ⟨s, rfl, hP.1⟩, fun post n hp => pk_le 4 4 (fun _ => ?_) (fun z => absurd z (by omega))⟩
    unfold wX_close_81
    exact mh_sizeOf hp
theorem mh_commit (hI : mh_I c C R us ro mk en op sn lv nu tc ov) (x : Int32) :
    ∃ (r : Int32) (u : St1), mh_IS c u ∧ ∀ post : Int32 → St1 → Prop, post r u → wpX_commit post (C, R, us, ro, vl, mk, en, op, sn, lv, nu, tc, ov, al) x := by
  rcases mh_arg x (n := 4) (by decide) with h | ⟨t, ht, rfl⟩
  · refine ⟨-1, (C, R, us, ro, vl, mk, en, op, sn, lv, nu, tc, ov, al), hI, fun post hp => ?_⟩
    unfold wpX_commit
    exact mh_ref_b h (br_f (by decide) hp)
  · by_cases ho : op t = 0
    · refine ⟨-2, (C, R, us, ro, vl, mk, en, op, sn, lv, nu, tc, ov, al), hI, fun post hp => ?_⟩
      unfold wpX_commit
      exact mh_ref_c ht ho (br_f (by decide) hp)
    · obtain ⟨hJ, hK1, hK2, hc⟩ := hI
      obtain ⟨l, h4, hl, hn⟩ := hK2 t ht ho
      obtain ⟨X, hX, HX⟩ := mh_ownSet C R us ro vl mk en op sn lv nu tc ov al ht hl h4 hn
      have hX' := mh_own_sl ht ho hl h4 hX
      obtain ⟨p, ⟨ov', rfl, hov⟩, H⟩ := mh_close_53 (mh_cb (fun k => tc (t * 4 + k)) (l + 1)) (C ||| X) (R &&& (X ^^^ (-1))) us ro vl mk en (upd op t 0) sn lv nu tc ov al
      refine ⟨mh_so (mh_cb (fun k => tc (t * 4 + k)) (l + 1)) 8, (C ||| X, R &&& (X ^^^ (-1)), us, ro, vl, mk, en, upd op t 0, sn, lv, nu, tc, ov', al), ⟨mh_T_commit (l := l) hJ (mh_sl_iff ht ho hl h4) mh_sl_close (fun n => ?_) (fun n => ?_) (fun a ha r => ?_), hK1, mh_K2_close hK2, hc⟩, fun post hp => ?_⟩
      · rw [mh_st_del, hX']
      · rw [mh_st_or, hX']
      · unfold mh_ov
        rw [hov a ha.1, mh_tr_or, mh_cb_tr]
        constructor
        · rintro (z | ⟨k, hk, z⟩)
          · exact Or.inl z
          · exact Or.inr ⟨k, (mh_sl_iff ht ho hl h4 k).mpr (by omega), z⟩
        · rintro (z | ⟨k, hk, z⟩)
          · exact Or.inl z
          · have := (mh_sl_iff ht ho hl h4 k).mp hk
            exact Or.inr ⟨k, by omega, z⟩
      · unfold wpX_commit
        refine mh_ref_o ht ho (br_t (by decide) ?_)
        unfold wpX_close
        refine mh_changedBy ht hl h4 (HX _ (nm_e ⟨pk_in t 4 ht, ?_⟩))
        rw [nI_clamp (show t < 2 ^ 31 by omega)]
        exact nm_e (br_f (by decide) (nm_e (H (fun p => post p.1 p.2) hp)))
theorem mh_crash (hI : mh_I c C R us ro mk en op sn lv nu tc ov) :
    ∃ op' : Nat → Int32, (mh_I c C 0 us ro mk en op' sn lv nu tc ov ∧ ∀ t, t < 4 → op' t = 0) ∧
      ∀ post : Int32 → St1 → Prop, post (nI (mh_cnt op 4)) (C, 0, us, ro, vl, mk, en, op', sn, lv, nu, tc, ov, al) → wpX_crash post (C, R, us, ro, vl, mk, en, op, sn, lv, nu, tc, ov, al) := by
  have main := mh_lp0 (fun (post : Int32 × St1 → Prop) n i (s : Nat × (Nat → Int32)) => wX_crash_4 (fun r u => post (r, u)) C R n (nI s.1) (nI i) us ro vl mk en s.2 sn lv nu tc ov al) 4
    (fun i s => s.1 = mh_cnt op i ∧ (∀ t, t < i → s.2 t = 0) ∧ ∀ t, i ≤ t → s.2 t = op t)
    (fun p => ∃ op', p = (nI (mh_cnt op 4), (C, 0, us, ro, vl, mk, en, op', sn, lv, nu, tc, ov, al)) ∧ ∀ t, t < 4 → op' t = 0) (0, op) ⟨rfl, fun t h => absurd h (by omega), fun t _ => rfl⟩ (by
    rintro i ⟨x, o⟩ hi ⟨h1, h2, h3⟩
    dsimp only at h1 h2 h3
    have hoi := h3 i (Nat.le_refl i)
    have A : (∀ t, t < i + 1 → upd o i 0 t = 0) ∧ ∀ t, i + 1 ≤ t → upd o i 0 t = op t := by
      constructor
      · intro t ht
        by_cases q : t = i
        · subst q
          exact pk_us
        · rw [pk_un q]
          exact h2 t (by omega)
      · intro t ht
        rw [pk_un (show t ≠ i by omega)]
        exact h3 t (by omega)
    by_cases ho : op i = 0
    · refine Or.inr ⟨(x, upd o i 0), ⟨?_, A⟩, fun post n hw => ?_⟩
      · show x = mh_cnt op (i + 1)
        unfold mh_cnt
        rw [if_pos ho, h1]
        rfl
      · refine pk_le 4 i (fun z => absurd z (by omega)) (fun _ => ⟨pk_in i 4 hi, ?_⟩)
        rw [nI_clamp (show i < 2 ^ 31 by omega)]
        exact br_t (hoi.trans ho) ⟨pk_in i 4 hi, nm_e (nm_r (nI_1 i) hw)⟩
    · refine Or.inr ⟨(x + 1, upd o i 0), ⟨?_, A⟩, fun post n hw => ?_⟩
      · show x + 1 = mh_cnt op (i + 1)
        unfold mh_cnt
        rw [if_neg ho, h1]
      · refine pk_le 4 i (fun z => absurd z (by omega)) (fun _ => ⟨pk_in i 4 hi, ?_⟩)
        rw [nI_clamp (show i < 2 ^ 31 by omega)]
        exact br_f (fun z => ho (hoi.symm.trans z)) (nm_r (nI_1 x) ⟨pk_in i 4 hi, nm_e (nm_r (nI_1 i) hw)⟩)) (by
    rintro ⟨x, o⟩ ⟨h1, h2, _⟩
    dsimp only at h1 h2
    exact ⟨_, ⟨o, by rw [h1], h2⟩, fun post n hp => pk_le 4 4 (fun _ => hp) (fun z => absurd z (by omega))⟩)
  obtain ⟨p, ⟨op', rfl, h⟩, H⟩ := main
  obtain ⟨hJ, hK1, hK2, hc⟩ := hI
  have none : ∀ a k, ¬ mh_sl op' lv a k := fun a k z => z.2.1 (h a z.1)
  exact ⟨op', ⟨⟨mh_T_less hJ (fun a k z => absurd z (none a k)) (fun a k z => absurd z (none a k)) (fun n => ⟨fun z => absurd z (mh_st_z n), fun ⟨a, k, z, _⟩ => absurd z (none a k)⟩), hK1, fun a ha z => absurd (h a ha) z, hc⟩, h⟩,
    fun post hp => H (fun p => post p.1 p.2) hp⟩
theorem mh_flush (hI : mh_I c C R us ro mk en op sn lv nu tc ov) :
    ∃ u : St1, mh_IS c u ∧ ∀ post : St1 → Prop, post u → wpX_flush post (C, R, us, ro, vl, mk, en, op, sn, lv, nu, tc, ov, al) := by
  obtain ⟨hJ, hK1, hK2, hc⟩ := hI
  have main := mh_lp0 (fun (post : St1 → Prop) n i (e : Nat → Int32) => wX_flush_2 post C R n (nI i) us ro vl mk e op sn lv nu tc ov al) 96
    (fun i e => (∀ v, i ≤ v → e v = en v) ∧ (∀ v, v < i → us v ≠ 0 → (mh_over C R (en v) ∧ e v = 0) ∨ (¬ mh_over C R (en v) ∧ e v = en v)))
    (fun u => ∃ e, u = (C, R, us, ro, vl, mk, e, op, sn, lv, nu, tc, ov, al) ∧ ∀ v, mh_U us v → (mh_over C R (en v) ∧ e v = 0) ∨ (¬ mh_over C R (en v) ∧ e v = en v)) en ⟨fun v _ => rfl, fun v h => absurd h (by omega)⟩ (by
    intro i e hi hP
    obtain ⟨h1, h2⟩ := hP
    have hei := h1 i (Nat.le_refl i)
    by_cases hu : us i = 0
    · refine Or.inr ⟨e, ⟨fun v hv => h1 v (by omega), fun v hv hne => ?_⟩, fun post n hw => ?_⟩
      · by_cases q : v = i
        · subst q
          exact absurd hu hne
        · exact h2 v (by omega) hne
      · refine pk_le 96 i (fun z => absurd z (by omega)) (fun _ => ⟨pk_in i 96 hi, ?_⟩)
        rw [nI_clamp (show i < 2 ^ 31 by omega)]
        exact br_t hu (nm_r (nI_1 i) hw)
    · obtain ⟨o1, o2, _⟩ := hK1 i ⟨hi, hu⟩
      by_cases hov : mh_over C R (en i)
      · refine Or.inr ⟨upd e i 0, ⟨fun v hv => ?_, fun v hv hne => ?_⟩, fun post n hw => ?_⟩
        · rw [pk_un (show v ≠ i by omega)]
          exact h1 v (by omega)
        · by_cases q : v = i
          · subst q
            exact Or.inl ⟨hov, pk_us⟩
          · rw [pk_un q]
            exact h2 v (by omega) hne
        · refine pk_le 96 i (fun z => absurd z (by omega)) (fun _ => ⟨pk_in i 96 hi, ?_⟩)
          rw [nI_clamp (show i < 2 ^ 31 by omega), hei]
          exact br_f hu ⟨pk_in i 96 hi, mh_over_t o2 hov (br_f (by decide) ⟨pk_in i 96 hi, nm_e (nm_r (nI_1 i) hw)⟩)⟩
      · refine Or.inr ⟨e, ⟨fun v hv => h1 v (by omega), fun v hv hne => ?_⟩, fun post n hw => ?_⟩
        · by_cases q : v = i
          · subst q
            exact Or.inr ⟨hov, hei⟩
          · exact h2 v (by omega) hne
        · refine pk_le 96 i (fun z => absurd z (by omega)) (fun _ => ⟨pk_in i 96 hi, ?_⟩)
          rw [nI_clamp (show i < 2 ^ 31 by omega), hei]
          exact br_f hu ⟨pk_in i 96 hi, mh_over_f o2 hov (br_t rfl (nm_r (nI_1 i) hw))⟩) (by
    intro e hP
    exact ⟨_, ⟨e, rfl, fun v hv => hP.2 v hv.1 hv.2⟩, fun post n hp => pk_le 96 96 (fun _ => hp) (fun z => absurd z (by omega))⟩)
  obtain ⟨u, ⟨e, rfl, he⟩, H⟩ := main
  refine ⟨(C, R, us, ro, vl, mk, e, op, sn, lv, nu, tc, ov, al), ⟨?_, ?_, hK2, hc⟩, H⟩
  · refine (mh_T_ren (Cs' := mh_st C) (sn' := mh_sn sn) (U' := mh_U us) (mk' := mk) (en' := e) hJ (fun v h => h) (fun v _ => ?_) (fun v hv => ?_) (fun v h1 h2 => absurd h1 h2) (fun n h => h) (fun t ht n h => ⟨h, hJ.2.2.2.2.1 t ht n h⟩) (fun v _ => ⟨fun z => z, fun z => z⟩) (fun t _ v _ => ⟨fun z => z, fun z => z⟩)).1
    · by_cases q : mh_st C (mk v)
      · exact Or.inr (Or.inr ⟨q, q, fun t _ => Iff.rfl⟩)
      · exact Or.inl ⟨rfl, q⟩
    · rcases he v hv with ⟨h1, h2⟩ | ⟨h1, h2⟩
      · exact Or.inr (Or.inl ⟨h1.2.1, h1.2.2, h2⟩)
      · rw [h2]
        by_cases q : mh_st C (en v)
        · exact Or.inr (Or.inr ⟨q, q, fun t _ => Iff.rfl⟩)
        · exact Or.inl ⟨rfl, q⟩
  · intro v hv
    obtain ⟨o1, o2, o3⟩ := hK1 v hv
    refine ⟨o1, ?_, o3⟩
    rcases he v hv with ⟨_, h2⟩ | ⟨_, h2⟩
    · rw [h2]
      exact mh_ok_0
    · rw [h2]
      exact o2
theorem mh_vacuum (hI : mh_I c C R us ro mk en op sn lv nu tc ov) :
    ∃ u : St1, mh_IS c u ∧ ∀ post : St1 → Prop, post u → wpX_vacuum post (C, R, us, ro, vl, mk, en, op, sn, lv, nu, tc, ov, al) := by
  obtain ⟨hJ, hK1, hK2, hc⟩ := hI
  obtain ⟨C', us', mk', en', sn', al', ⟨t1, t2, t3, _, _⟩, H⟩ := mh_tidy C R us ro vl mk en op sn lv nu tc ov al hJ hK1 hK2
  refine ⟨(C', R, us', ro, vl, mk', en', op, sn', lv, nu, tc, ov, al'), ⟨t1, t2, hK2, Nat.le_trans (mh_cnt_le 96 (fun v hv hne => (t3 v ⟨hv, hne⟩).2)) hc⟩, fun post hp => ?_⟩
  unfold wpX_vacuum
  exact H _ hp
end
end
section
/-! a transaction begins; savepoints -/
section
variable {C R : Int64} {us ro vl mk en op : Nat → Int32} {sn : Nat → Int64} {lv nu tc ov al : Nat → Int32} {c : Nat}
theorem mh_I_new {op' : Nat → Int32} {sn' : Nat → Int64} {ov' : Nat → Int32} {t l : Nat} {n : Int32}
    (hJ : mh_J (mh_st C) (mh_st R) (mh_U us) ro mk en (mh_sl op lv) (mh_sn sn) (mh_nu nu) (mh_tt tc) (mh_ov ov)) (hK2 : mh_K2 op lv nu tc) (ht : t < 4) (h4 : l < 4) (hl : ∀ k, mh_sl op lv t k ↔ k < l)
    (hn1 : mh_ok n) (hn2 : n ≠ 0) (hn3 : ¬ mh_used C R us mk en n) (ho1 : op' t ≠ 0) (ho2 : ∀ a, a ≠ t → op' a = op a)
    (hs1 : ∀ a, mh_sl op lv a 0 → sn' a = sn a ∧ ov' a = ov a) (hs2 : ¬ mh_sl op lv t 0 → sn' t = C ∧ ov' t = 0) :
    mh_J (mh_st C) (mh_st (R ||| ((1 : Int64) <<< (n.toInt64 &&& 63)))) (mh_U us) ro mk en (mh_sl op' (upd lv t (nI l))) (mh_sn sn') (mh_nu (upd nu (t * 4 + l) n)) (mh_tt (upd tc (t * 4 + l) 0)) (mh_ov ov') ∧
      mh_K2 op' (upd lv t (nI l)) (upd nu (t * 4 + l) n) (upd tc (t * 4 + l) 0) := by
  have hsl : ∀ a k, mh_sl op' (upd lv t (nI l)) a k ↔ mh_sl op lv a k ∨ (a = t ∧ k = l) := by
    intro a k
    by_cases q : a = t
    · subst q
      rw [mh_sl_iff ht ho1 pk_us h4, hl]
      constructor
      · intro z
        rcases Nat.lt_or_ge k l with y | y
        · exact Or.inl y
        · exact Or.inr ⟨rfl, by omega⟩
      · rintro (z | ⟨_, z⟩) <;> omega
    · unfold mh_sl
      rw [ho2 a q, pk_un q]
      exact ⟨Or.inl, fun z => z.resolve_right (fun y => q y.1)⟩
  have hix : ∀ a k, mh_sl op lv a k → a * 4 + k ≠ t * 4 + l := by
    intro a k h z
    have h1 := mh_slK hK2 h
    have h2 : a = t := by omega
    subst h2
    have := (hl k).mp h
    omega
  constructor
  · refine mh_T_new (t := t) (l := l) (n := n) hJ hl hn2 (fun z => hn3 (Or.inl z)) (fun z => hn3 (Or.inr (Or.inl z))) (fun v hv => ⟨fun z => hn3 (Or.inr (Or.inr ⟨hn2, v, hv, Or.inl z⟩)), fun z => hn3 (Or.inr (Or.inr ⟨hn2, v, hv, Or.inr z⟩))⟩)
      hsl (fun m => ?_) pk_us (fun a k h => pk_un (hix a k h)) (fun r => ?_) (fun a k r h => ?_) (fun a h => ?_) (fun h => ?_)
    · rw [mh_st_or, mh_st_bit hn1]
      exact ⟨fun z => z.imp id (fun y => y.1), fun z => z.imp id (fun y => ⟨y, by rw [y]; exact hn2⟩)⟩
    · unfold mh_tt
      rw [pk_us]
      exact mh_tr_0 r
    · unfold mh_tt
      rw [pk_un (hix a k h)]
    · obtain ⟨e1, e2⟩ := hs1 a h
      unfold mh_sn mh_ov
      rw [e1, e2]
      exact ⟨fun _ => Iff.rfl, fun _ => Iff.rfl⟩
    · obtain ⟨e1, e2⟩ := hs2 h
      unfold mh_sn mh_ov
      rw [e1, e2]
      exact ⟨fun _ => Iff.rfl, fun r => mh_tr_0 r⟩
  · intro a ha ho
    by_cases q : a = t
    · subst q
      refine ⟨l, h4, pk_us, fun k hk => ?_⟩
      by_cases qk : k = l
      · subst qk
        rw [pk_us, pk_us]
        exact ⟨hn1, hn2, Int32.le_refl 0⟩
      · have hs := (hl k).mpr (by omega)
        rw [pk_un (hix a k hs), pk_un (hix a k hs)]
        obtain ⟨l0, g4, gl, gn⟩ := hK2 a ha hs.2.1
        exact gn k ((mh_sl_iff ha hs.2.1 gl g4 k).mp hs)
    · rw [ho2 a q] at ho
      obtain ⟨l0, g4, gl, gn⟩ := hK2 a ha ho
      refine ⟨l0, g4, by rw [pk_un q]; exact gl, fun k hk => ?_⟩
      rw [pk_un (show a * 4 + k ≠ t * 4 + l by omega), pk_un (show a * 4 + k ≠ t * 4 + l by omega)]
      exact gn k hk
theorem mh_open_c (hI : mh_I c C R us ro mk en op sn lv nu tc ov) {t : Nat} (ht : t < 4) (ho : op t = 0) :
    ∃ (n : Int32) (C' R' : Int64) (us' mk' en' : Nat → Int32) (sn' : Nat → Int64) (al' : Nat → Int32),
      (mh_I c C' R' us' ro mk' en' (upd op t 1) (vp_updL sn' t C') (upd lv t 0) (upd nu (t * 4) n) (upd tc (t * 4) 0) (upd ov t 0) ∧ mh_EV op lv nu C us mk en sn C' us' mk' en' sn' ∧
        mh_ok n ∧ n ≠ 0 ∧ ∀ v, mh_U us' v → mk' v ≠ n ∧ en' v ≠ n) ∧
      ∀ post : Int32 → St1 → Prop, post 0 (C', R', us', ro, vl, mk', en', upd op t 1, vp_updL sn' t C', upd lv t 0, upd nu (t * 4) n, upd tc (t * 4) 0, upd ov t 0, al') → wpX_open post (C, R, us, ro, vl, mk, en, op, sn, lv, nu, tc, ov, al) (nI t) := by
  obtain ⟨hJ, hK1, hK2, hc⟩ := hI
  obtain ⟨n, C', us', mk', en', sn', al', ⟨g1, g2, g3, g4, g5, g6, g7⟩, H⟩ := mh_newNumber C R us ro vl mk en op sn lv nu tc ov al hJ hK1 hK2
  have hno : ∀ k, ¬ mh_sl op lv t k := fun k z => z.2.1 ho
  have key := mh_I_new (op' := upd op t 1) (sn' := vp_updL sn' t C') (ov' := upd ov t 0) (t := t) (l := 0) g1 hK2 ht (by decide) (fun k => ⟨fun z => absurd z (hno k), fun z => absurd z (by omega)⟩) g5 g6 g7
    (by rw [pk_us]; decide) (fun a h => pk_un h)
    (fun a h => by
      have q : a ≠ t := fun z => hno 0 (z ▸ h)
      exact ⟨pk_uLn q, pk_un q⟩)
    (fun _ => ⟨pk_uLs, pk_us⟩)
  refine ⟨n, C', R ||| ((1 : Int64) <<< (n.toInt64 &&& 63)), us', mk', en', sn', al', ⟨⟨key.1, g2, key.2, Nat.le_trans (mh_cnt_le 96 (fun v hv hne => (g3 v ⟨hv, hne⟩).2)) hc⟩, g4, g5, g6, fun v hv => ⟨fun z => g7 (Or.inr (Or.inr ⟨g6, v, hv, Or.inl z⟩)), fun z => g7 (Or.inr (Or.inr ⟨g6, v, hv, Or.inr z⟩))⟩⟩, fun post hp => ?_⟩
  unfold wpX_open
  refine mh_ref_c ht ho (br_t rfl (H _ ⟨pk_in t 4 ht, ?_⟩))
  rw [mh_idx0, nI_clamp (show t < 2 ^ 31 by omega), nI_clamp (show t * 4 < 2 ^ 31 by omega)]
  exact nm_e ⟨pk_in t 4 ht, nm_e ⟨pk_in t 4 ht, nm_e ⟨pk_in (t * 4) 16 (by omega), nm_e ⟨pk_in (t * 4) 16 (by omega), nm_e ⟨pk_in t 4 ht, nm_e hp⟩⟩⟩⟩⟩
theorem mh_open (hI : mh_I c C R us ro mk en op sn lv nu tc ov) (x : Int32) :
    ∃ (r : Int32) (u : St1), mh_IS c u ∧ ∀ post : Int32 → St1 → Prop, post r u → wpX_open post (C, R, us, ro, vl, mk, en, op, sn, lv, nu, tc, ov, al) x := by
  rcases mh_arg x (n := 4) (by decide) with h | ⟨t, ht, rfl⟩
  · refine ⟨-1, (C, R, us, ro, vl, mk, en, op, sn, lv, nu, tc, ov, al), hI, fun post hp => ?_⟩
    unfold wpX_open
    exact mh_ref_b h (br_f (by decide) (br_t rfl hp))
  · by_cases ho : op t = 0
    · obtain ⟨n, C', R', us', mk', en', sn', al', ⟨h1, _⟩, H⟩ := mh_open_c (vl := vl) (al := al) hI ht ho
      exact ⟨0, (C', R', us', ro, vl, mk', en', upd op t 1, vp_updL sn' t C', upd lv t 0, upd nu (t * 4) n, upd tc (t * 4) 0, upd ov t 0, al'), h1, H⟩
    · refine ⟨-2, (C, R, us, ro, vl, mk, en, op, sn, lv, nu, tc, ov, al), hI, fun post hp => ?_⟩
      unfold wpX_open
      exact mh_ref_o ht ho (br_f (by decide) (br_f (by decide) hp))
theorem mh_save (hI : mh_I c C R us ro mk en op sn lv nu tc ov) (x : Int32) :
    ∃ (r : Int32) (u : St1), mh_IS c u ∧ ∀ post : Int32 → St1 → Prop, post r u → wpX_save post (C, R, us, ro, vl, mk, en, op, sn, lv, nu, tc, ov, al) x := by
  rcases mh_arg x (n := 4) (by decide) with h | ⟨t, ht, rfl⟩
  · refine ⟨-1, (C, R, us, ro, vl, mk, en, op, sn, lv, nu, tc, ov, al), hI, fun post hp => ?_⟩
    unfold wpX_save
    exact mh_ref_b h (br_f (by decide) hp)
  · by_cases ho : op t = 0
    · refine ⟨-2, (C, R, us, ro, vl, mk, en, op, sn, lv, nu, tc, ov, al), hI, fun post hp => ?_⟩
      unfold wpX_save
      exact mh_ref_c ht ho (br_f (by decide) hp)
    · have hI' := hI
      obtain ⟨hJ, hK1, hK2, hc⟩ := hI'
      obtain ⟨l, h4, hl, hn⟩ := hK2 t ht ho
      have htb : t < 2 ^ 31 := by omega
      by_cases h3 : l = 3
      · refine ⟨-6, (C, R, us, ro, vl, mk, en, op, sn, lv, nu, tc, ov, al), hI, fun post hp => ?_⟩
        unfold wpX_save
        refine mh_ref_o ht ho (br_t (by decide) ⟨pk_in t 4 ht, ?_⟩)
        rw [nI_clamp htb]
        exact br_t (by rw [hl, h3]; rfl) hp
      · obtain ⟨n, C', us', mk', en', sn', al', ⟨g1, g2, g3, g4, g5, g6, g7⟩, H⟩ := mh_newNumber C R us ro vl mk en op sn lv nu tc ov al hJ hK1 hK2
        have key := mh_I_new (op' := op) (sn' := sn') (ov' := ov) (t := t) (l := l + 1) g1 hK2 ht (by omega) (fun k => by rw [mh_sl_iff ht ho hl h4]; omega) g5 g6 g7 ho (fun _ _ => rfl) (fun _ _ => ⟨rfl, rfl⟩) (fun z => absurd ((mh_sl_iff ht ho hl h4 0).mpr (by omega)) z)
        refine ⟨upd lv t (nI (l + 1)) t, (C', R ||| ((1 : Int64) <<< (n.toInt64 &&& 63)), us', ro, vl, mk', en', op, sn', upd lv t (nI (l + 1)), upd nu (t * 4 + (l + 1)) n, upd tc (t * 4 + (l + 1)) 0, ov, al'),
          ⟨key.1, g2, key.2, Nat.le_trans (mh_cnt_le 96 (fun v hv hne => (g3 v ⟨hv, hne⟩).2)) hc⟩, fun post hp => ?_⟩
        unfold wpX_save
        refine mh_ref_o ht ho (br_t (by decide) ⟨pk_in t 4 ht, ?_⟩)
        rw [nI_clamp htb]
        refine br_f (by rw [hl]; exact fun z => h3 ((nI_eq (b := 3) (by omega) (by decide)).mp z)) (H _ ⟨pk_in t 4 ht, pk_in t 4 ht, nm_r (e' := upd lv t (nI (l + 1))) (by rw [hl, nI_1]) ?_⟩)
        have ix : t * 4 + (l + 1) < 2 ^ 31 := by omega
        refine mh_current ht pk_us ⟨pk_in (t * 4 + (l + 1)) 16 (by omega), ?_⟩
        rw [nI_clamp ix]
        refine nm_e (mh_current ht pk_us ⟨pk_in (t * 4 + (l + 1)) 16 (by omega), ?_⟩)
        rw [nI_clamp ix]
        exact nm_e ⟨pk_in t 4 ht, hp⟩
theorem mh_back (hI : mh_I c C R us ro mk en op sn lv nu tc ov) (x : Int32) :
    ∃ (r : Int32) (u : St1), mh_IS c u ∧ ∀ post : Int32 → St1 → Prop, post r u → wpX_back post (C, R, us, ro, vl, mk, en, op, sn, lv, nu, tc, ov, al) x := by
  rcases mh_arg x (n := 4) (by decide) with h | ⟨t, ht, rfl⟩
  · refine ⟨-1, (C, R, us, ro, vl, mk, en, op, sn, lv, nu, tc, ov, al), hI, fun post hp => ?_⟩
    unfold wpX_back
    exact mh_ref_b h (br_f (by decide) hp)
  · by_cases ho : op t = 0
    · refine ⟨-2, (C, R, us, ro, vl, mk, en, op, sn, lv, nu, tc, ov, al), hI, fun post hp => ?_⟩
      unfold wpX_back
      exact mh_ref_c ht ho (br_f (by decide) hp)
    · have hI' := hI
      obtain ⟨hJ, hK1, hK2, hc⟩ := hI'
      obtain ⟨l0, h4, hl, hn⟩ := hK2 t ht ho
      have htb : t < 2 ^ 31 := by omega
      cases l0 with
      | zero =>
        refine ⟨-3, (C, R, us, ro, vl, mk, en, op, sn, lv, nu, tc, ov, al), hI, fun post hp => ?_⟩
        unfold wpX_back
        refine mh_ref_o ht ho (br_t (by decide) ⟨pk_in t 4 ht, ?_⟩)
        rw [nI_clamp htb]
        exact br_t hl hp
      | succ l =>
        have hsl : ∀ a k, mh_sl op (upd lv t (nI l)) a k ↔ mh_sl op lv a k ∧ ¬ (a = t ∧ k = l + 1) := by
          intro a k
          by_cases q : a = t
          · subst q
            rw [mh_sl_iff ht ho pk_us (show l < 4 by omega), mh_sl_iff ht ho hl h4]
            constructor
            · exact fun z => ⟨by omega, fun y => by omega⟩
            · rintro ⟨z, y⟩
              have : k ≠ l + 1 := fun w => y ⟨rfl, w⟩
              omega
          · unfold mh_sl
            rw [pk_un q]
            exact ⟨fun z => ⟨z, fun y => q y.1⟩, fun z => z.1⟩
        obtain ⟨n1, n2, _⟩ := hn (l + 1) (Nat.le_refl _)
        have hstop : mh_sl op lv t (l + 1) := (mh_sl_iff ht ho hl h4 _).mpr (Nat.le_refl _)
        refine ⟨upd lv t (nI l) t, (C, R &&& (((1 : Int64) <<< ((nu (t * 4 + (l + 1))).toInt64 &&& 63)) ^^^ (-1)), us, ro, vl, mk, en, op, sn, upd lv t (nI l), nu, tc, ov, al), ⟨?_, hK1, ?_, hc⟩, fun post hp => ?_⟩
        · refine mh_T_less hJ (fun a k h => ((hsl a k).mp h).1) (fun a k h j hj => ?_) (fun n => ?_)
          · obtain ⟨h1, h2⟩ := (hsl a k).mp h
            refine (hsl a j).mpr ⟨(hJ.2.2.1 a k h1).2 j hj, fun y => ?_⟩
            obtain ⟨rfl, rfl⟩ := y
            have := (mh_sl_iff ht ho hl h4 k).mp h1
            exact h2 ⟨rfl, by omega⟩
          · rw [mh_st_del, mh_st_bit n1]
            constructor
            · rintro ⟨z, y⟩
              obtain ⟨a, k, h1, h2⟩ := (hJ.2.1 n).mp z
              refine ⟨a, k, (hsl a k).mpr ⟨h1, fun w => y ?_⟩, h2⟩
              obtain ⟨rfl, rfl⟩ := w
              exact ⟨h2.symm, by rw [← h2]; exact n2⟩
            · rintro ⟨a, k, h1, h2⟩
              obtain ⟨g1, g2⟩ := (hsl a k).mp h1
              refine ⟨(hJ.2.1 n).mpr ⟨a, k, g1, h2⟩, fun w => g2 ?_⟩
              exact hJ.2.2.2.1 a k t (l + 1) g1 hstop (h2.trans w.1)
        · intro a ha hoa
          by_cases q : a = t
          · subst q
            exact ⟨l, by omega, pk_us, fun k hk => hn k (by omega)⟩
          · rw [pk_un q]
            exact hK2 a ha hoa
        · unfold wpX_back
          refine mh_ref_o ht ho (br_t (by decide) ⟨pk_in t 4 ht, ?_⟩)
          rw [nI_clamp htb]
          refine br_f (by rw [hl]; exact nI_ne0 (by omega) (by omega)) (mh_current ht hl ⟨pk_in (t * 4 + (l + 1)) 16 (by omega), ?_⟩)
          rw [nI_clamp (show t * 4 + (l + 1) < 2 ^ 31 by omega)]
          exact nm_e ⟨pk_in t 4 ht, pk_in t 4 ht, nm_r (e' := upd lv t (nI l)) (by rw [hl, nI_pred]) ⟨pk_in t 4 ht, hp⟩⟩
end
end
section
/-! writes -/
/-- the same versions are seen, with the same rows and values -/
def mh_kv (us ro vl mk en : Nat → Int32) (S : Int32 → Prop) (us' ro' vl' mk' en' : Nat → Int32) (S' : Int32 → Prop) : Prop :=
  ∀ v, (mh_Q (mh_U us') mk' en' S' v ↔ mh_Q (mh_U us) mk en S v) ∧ (mh_Q (mh_U us) mk en S v → ro' v = ro v ∧ vl' v = vl v)
def mh_tu (tc : Nat → Int32) (t l r : Nat) : Nat → Int32 := upd tc (t * 4 + l) (tc (t * 4 + l) ||| ((1 : Int32) <<< (nI r &&& 31)))
/-- what a write of y to row r by transaction t leaves -/
def mh_WR (c : Nat) (C R : Int64) (us ro vl mk en op : Nat → Int32) (sn : Nat → Int64) (lv nu tc ov : Nat → Int32) (t l r : Nat) (y : Int32) (us' ro' vl' mk' en' : Nat → Int32) : Prop :=
  mh_I (c + 1) C R us' ro' mk' en' op sn lv nu (mh_tu tc t l r) ov ∧
  mh_kv us ro vl mk en (mh_st C) us' ro' vl' mk' en' (mh_st C) ∧
  (∀ a j, mh_sl op lv a j → ¬ (a = t ∧ j = l) → mh_kv us ro vl mk en (mh_VS (mh_sn sn) (mh_nu nu) a j) us' ro' vl' mk' en' (mh_VS (mh_sn sn) (mh_nu nu) a j)) ∧
  ∃ w, mh_Q (mh_U us') mk' en' (mh_VS (mh_sn sn) (mh_nu nu) t l) w ∧ ro' w = nI r ∧ vl' w = y
section
variable {C R : Int64} {us ro vl mk en op : Nat → Int32} {sn : Nat → Int64} {lv nu tc ov al : Nat → Int32} {c : Nat}
theorem mh_touch {t l r : Nat} (hJ : mh_J (mh_st C) (mh_st R) (mh_U us) ro mk en (mh_sl op lv) (mh_sn sn) (mh_nu nu) (mh_tt tc) (mh_ov ov)) (hK2 : mh_K2 op lv nu tc)
    (h4 : l < 4) (hr : r < 8) (hb : ¬ mh_bl op lv tc t (nI r)) (hv : ¬ mh_ov ov t (nI r)) :
    mh_J (mh_st C) (mh_st R) (mh_U us) ro mk en (mh_sl op lv) (mh_sn sn) (mh_nu nu) (mh_tt (mh_tu tc t l r)) (mh_ov ov) ∧ mh_K2 op lv nu (mh_tu tc t l r) ∧ mh_tt (mh_tu tc t l r) t l (nI r) := by
  have rk : mh_rk (nI r) := ⟨r, hr, rfl⟩
  have e1 : mh_tu tc t l r (t * 4 + l) = tc (t * 4 + l) ||| ((1 : Int32) <<< (nI r &&& 31)) := pk_us
  have e2 : ∀ j, j ≠ t * 4 + l → mh_tu tc t l r j = tc j := fun j h => pk_un h
  refine ⟨mh_T_touch (t := t) (l := l) (r := nI r) hJ (fun a k h z => ?_) hv (fun a k r' h => ?_), fun a ha ho => ?_, ?_⟩
  · apply Classical.byContradiction
    intro y
    exact hb ⟨a, k, h, y, z⟩
  · have hk := mh_slK hK2 h
    unfold mh_tt
    by_cases q : a * 4 + k = t * 4 + l
    · have q1 : a = t := by omega
      have q2 : k = l := by omega
      rw [q, e1, mh_tr_or, mh_tr_bit rk]
      exact ⟨fun z => z.imp id (fun y => ⟨q1, q2, y⟩), fun z => z.imp id (fun y => y.2.2)⟩
    · rw [e2 _ q]
      refine ⟨Or.inl, fun z => z.resolve_right (fun y => q ?_)⟩
      rw [y.1, y.2.1]
  · obtain ⟨l0, g4, gl, gn⟩ := hK2 a ha ho
    refine ⟨l0, g4, gl, fun k hk => ?_⟩
    obtain ⟨k1, k2, k3⟩ := gn k hk
    refine ⟨k1, k2, ?_⟩
    by_cases q : a * 4 + k = t * 4 + l
    · rw [q] at k3 ⊢
      rw [e1]
      exact mh_or_nn k3 (mh_bit_nn r hr)
    · rw [e2 _ q]
      exact k3
  · unfold mh_tt
    rw [e1, mh_tr_or, mh_tr_bit rk]
    exact Or.inr rfl
theorem mh_makeVersion (C R : Int64) (us ro vl mk en op : Nat → Int32) (sn : Nat → Int64) (lv nu tc ov al : Nat → Int32) (h : mh_cnt us 96 < 96) (x y n : Int32) :
    ∃ w : Nat, (w < 96 ∧ us w = 0) ∧ ∀ post : St1 → Prop, post (C, R, upd us w 1, upd ro w x, upd vl w y, upd mk w n, upd en w 0, op, sn, lv, nu, tc, ov, al) → wpX_makeVersion post (C, R, us, ro, vl, mk, en, op, sn, lv, nu, tc, ov, al) x y n := by
  obtain ⟨w, hw, H⟩ := mh_freeVersion C R us ro vl mk en op sn lv nu tc ov al (mh_cnt_free h)
  refine ⟨w, hw, fun post hp => ?_⟩
  have hw96 := hw.1
  unfold wpX_makeVersion
  refine H _ (br_t (nI_pos' (by omega)) ?_)
  unfold wX_makeVersion_21
  rw [nI_clamp (show w < 2 ^ 31 by omega)]
  exact ⟨pk_in w 96 hw96, nm_e ⟨pk_in w 96 hw96, nm_e ⟨pk_in w 96 hw96, nm_e ⟨pk_in w 96 hw96, nm_e ⟨pk_in w 96 hw96, nm_e hp⟩⟩⟩⟩⟩
theorem mh_WR_make {en2 : Nat → Int32} {t l r w : Nat} {y : Int32}
    (hJ : mh_J (mh_st C) (mh_st R) (mh_U us) ro mk en2 (mh_sl op lv) (mh_sn sn) (mh_nu nu) (mh_tt (mh_tu tc t l r)) (mh_ov ov)) (hK1 : mh_K1 us ro mk en2) (hK2 : mh_K2 op lv nu (mh_tu tc t l r)) (hc : mh_cnt us 96 ≤ c)
    (hs : mh_sl op lv t l) (htop : ∀ k, mh_sl op lv t k → k ≤ l) (hr : r < 8) (htt : mh_tt (mh_tu tc t l r) t l (nI r)) (hok : mh_ok (nu (t * 4 + l))) (hno : ∀ y, mh_Q (mh_U us) mk en2 (mh_VS (mh_sn sn) (mh_nu nu) t l) y → ro y ≠ nI r)
    (hq1 : ∀ v, mh_Q (mh_U us) mk en2 (mh_st C) v ↔ mh_Q (mh_U us) mk en (mh_st C) v) (hq2 : ∀ a j, mh_sl op lv a j → ¬ (a = t ∧ j = l) → ∀ v, mh_Q (mh_U us) mk en2 (mh_VS (mh_sn sn) (mh_nu nu) a j) v ↔ mh_Q (mh_U us) mk en (mh_VS (mh_sn sn) (mh_nu nu) a j) v)
    (hw : w < 96) (hw0 : us w = 0) :
    mh_WR c C R us ro vl mk en op sn lv nu tc ov t l r y (upd us w 1) (upd ro w (nI r)) (upd vl w y) (upd mk w (nu (t * 4 + l))) (upd en2 w 0) := by
  have hnw : ¬ mh_U us w := fun z => z.2 hw0
  have hU : ∀ v, mh_U (upd us w 1) v ↔ mh_U us v ∨ v = w := by
    intro v
    unfold mh_U
    by_cases q : v = w
    · subst q
      rw [pk_us]
      exact ⟨fun _ => Or.inr rfl, fun _ => ⟨hw, by decide⟩⟩
    · rw [pk_un q]
      exact ⟨Or.inl, fun z => z.resolve_right q⟩
  obtain ⟨k1, k2, k3, k4⟩ := mh_T_make (t := t) (l := l) (w := w) (r := nI r) (U' := mh_U (upd us w 1)) (ro' := upd ro w (nI r)) (mk' := upd mk w (nu (t * 4 + l))) (en' := upd en2 w 0) hJ hs htop htt hno hnw hU pk_us pk_us pk_us (fun y h => ⟨pk_un h, pk_un h, pk_un h⟩)
  have same : ∀ v, mh_U us v → upd ro w (nI r) v = ro v ∧ upd vl w y v = vl v := by
    intro v hv
    have q : v ≠ w := fun z => hnw (z ▸ hv)
    exact ⟨pk_un q, pk_un q⟩
  refine ⟨⟨k1, fun v hv => ?_, hK2, ?_⟩, fun v => ⟨(k2 v).trans (hq1 v), fun z => same v z.1⟩, fun a j h hne v => ⟨(k3 a j h hne v).trans (hq2 a j h hne v), fun z => same v z.1⟩, w, k4, pk_us, pk_us⟩
  · by_cases q : v = w
    · subst q
      rw [pk_us, pk_us, pk_us]
      exact ⟨hok, mh_ok_0, r, hr, rfl⟩
    · rw [pk_un q, pk_un q, pk_un q]
      exact hK1 v (((hU v).mp hv).resolve_right q)
  · have := mh_cnt_upd us w 1 96
    rw [if_pos hw] at this
    omega
theorem mh_write (hI : mh_I c C R us ro mk en op sn lv nu tc ov) (hc : c < 96) {t l r : Nat} (ht : t < 4) (ho : op t ≠ 0) (hl : lv t = nI l) (h4 : l < 4) (hr : r < 8) (hb : ¬ mh_bl op lv tc t (nI r)) (hv : ¬ mh_ov ov t (nI r)) {x : Int32}
    (hx : mh_LK ro (mh_Q (mh_U us) mk en (mh_VS (mh_sn sn) (mh_nu nu) t l)) (nI r) x) (y : Int32) :
    ∃ us' ro' vl' mk' en' : Nat → Int32, mh_WR c C R us ro vl mk en op sn lv nu tc ov t l r y us' ro' vl' mk' en' ∧
      ∀ post : St1 → Prop, post (C, R, us', ro', vl', mk', en', op, sn, lv, nu, mh_tu tc t l r, ov, al) → wpX_write post (C, R, us, ro, vl, mk, en, op, sn, lv, nu, tc, ov, al) (nI t) (nI r) x y := by
  obtain ⟨hJ, hK1, hK2, hcnt⟩ := hI
  obtain ⟨j1, j2, j3⟩ := mh_touch (t := t) (l := l) (r := r) hJ hK2 h4 hr hb hv
  have hs : mh_sl op lv t l := (mh_sl_iff ht ho hl h4 l).mpr (Nat.le_refl l)
  have htop : ∀ k, mh_sl op lv t k → k ≤ l := fun k h => (mh_sl_iff ht ho hl h4 k).mp h
  have hn : mh_ok (nu (t * 4 + l)) ∧ nu (t * 4 + l) ≠ 0 := by
    obtain ⟨l0, g4, gl, gn⟩ := hK2 t ht ho
    have := (mh_sl_iff ht ho gl g4 l).mp hs
    exact ⟨(gn l this).1, (gn l this).2.1⟩
  have ix : t * 4 + l < 2 ^ 31 := by omega
  have i16 : t * 4 + l < 16 := by omega
  rcases hx with ⟨rfl, hx⟩ | ⟨v, hv96, rfl, q1, q2, q3⟩
  · obtain ⟨w, hw, H⟩ := mh_makeVersion C R us ro vl mk en op sn lv nu (mh_tu tc t l r) ov al (by omega) (nI r) y (nu (t * 4 + l))
    refine ⟨_, _, _, _, _, mh_WR_make (en2 := en) j1 hK1 j2 hcnt hs htop hr j3 hn.1 hx (fun _ => Iff.rfl) (fun _ _ _ _ _ => Iff.rfl) hw.1 hw.2, fun post hp => ?_⟩
    unfold wpX_write
    refine mh_current ht hl ⟨pk_in (t * 4 + l) 16 i16, nm_e (mh_current ht hl (mh_current ht hl ⟨pk_in (t * 4 + l) 16 i16, pk_in (t * 4 + l) 16 i16, ?_⟩))⟩
    rw [nI_clamp ix]
    refine nm_e (br_t (by decide) ?_)
    unfold wX_write_62
    refine br_t (by decide) ?_
    unfold wX_write_74
    exact H _ hp
  · by_cases hm : mk v = nu (t * 4 + l)
    · refine ⟨us, ro, upd vl v y, mk, en, ⟨⟨j1, hK1, j2, by omega⟩, ?_, ?_, v, q1, q2, pk_us⟩, fun post hp => ?_⟩
      · refine fun w => ⟨Iff.rfl, fun z => ⟨rfl, pk_un (fun e => ?_)⟩⟩
        subst e
        rcases z.2.1 with z | z
        · exact hn.2 (hm.symm.trans z)
        · rw [hm] at z
          exact (mh_top hJ hs htop).1 z
      · refine fun a j h hne w => ⟨Iff.rfl, fun z => ⟨rfl, pk_un (fun e => ?_)⟩⟩
        subst e
        rcases z.2.1 with z | z
        · exact hn.2 (hm.symm.trans z)
        · rw [hm] at z
          exact (mh_top hJ hs htop).2 a j h hne z
      · unfold wpX_write
        refine mh_current ht hl ⟨pk_in (t * 4 + l) 16 i16, nm_e (mh_current ht hl (mh_current ht hl ⟨pk_in (t * 4 + l) 16 i16, pk_in (t * 4 + l) 16 i16, ?_⟩))⟩
        rw [nI_clamp ix, nI_clamp (show v < 2 ^ 31 by omega)]
        exact nm_e (br_f (nI_pos (by omega)) ⟨pk_in v 96 hv96, br_t hm ⟨pk_in v 96 hv96, nm_e hp⟩⟩)
    · obtain ⟨e1, e2, e3, e4⟩ := mh_T_end (t := t) (l := l) (x := v) (en' := upd en v (nu (t * 4 + l))) j1 hs htop q1 (by rw [q2]; exact j3) pk_us (fun y h => pk_un h)
      obtain ⟨w, hw, H⟩ := mh_makeVersion C R us ro vl mk (upd en v (nu (t * 4 + l))) op sn lv nu (mh_tu tc t l r) ov al (by omega) (nI r) y (nu (t * 4 + l))
      refine ⟨_, _, _, _, _, mh_WR_make (en2 := upd en v (nu (t * 4 + l))) e1 (fun v' hv' => ?_) j2 hcnt hs htop hr j3 hn.1 (fun z hz ez => ?_) e2 e3 hw.1 hw.2, fun post hp => ?_⟩
      · obtain ⟨o1, o2, o3⟩ := hK1 v' hv'
        refine ⟨o1, ?_, o3⟩
        by_cases q : v' = v
        · subst q
          rw [pk_us]
          exact hn.1
        · rw [pk_un q]
          exact o2
      · obtain ⟨z1, z2⟩ := (e4 z).mp hz
        exact z2 (hJ.2.2.2.2.2.2.2.2.2.2 t l hs z v z1 q1 (by rw [ez, q2]))
      · unfold wpX_write
        refine mh_current ht hl ⟨pk_in (t * 4 + l) 16 i16, nm_e (mh_current ht hl (mh_current ht hl ⟨pk_in (t * 4 + l) 16 i16, pk_in (t * 4 + l) 16 i16, ?_⟩))⟩
        rw [nI_clamp ix, nI_clamp (show v < 2 ^ 31 by omega)]
        refine nm_e (br_f (nI_pos (by omega)) ⟨pk_in v 96 hv96, br_f hm ?_⟩)
        unfold wX_write_62
        refine br_f (nI_pos (by omega)) ⟨pk_in v 96 hv96, ?_⟩
        rw [nI_clamp (show v < 2 ^ 31 by omega)]
        refine nm_e ?_
        unfold wX_write_74
        exact H _ hp
/-- a put that isn't blocked -/
theorem mh_put_w (hI : mh_I c C R us ro mk en op sn lv nu tc ov) (hc : c < 96) {t l r : Nat} (ht : t < 4) (ho : op t ≠ 0) (hl : lv t = nI l) (h4 : l < 4) (hr : r < 8) (hb : ¬ mh_bl op lv tc t (nI r)) (hv : ¬ mh_ov ov t (nI r)) (y : Int32) :
    ∃ (z : Int32) (us' ro' vl' mk' en' : Nat → Int32), ((z = 0 ∨ z = 1) ∧ mh_WR c C R us ro vl mk en op sn lv nu tc ov t l r y us' ro' vl' mk' en') ∧
      ∀ post : Int32 → St1 → Prop, post z (C, R, us', ro', vl', mk', en', op, sn, lv, nu, mh_tu tc t l r, ov, al) → wpX_put post (C, R, us, ro, vl, mk, en, op, sn, lv, nu, tc, ov, al) (nI t) (nI r) y := by
  have hI' := hI
  obtain ⟨hJ, hK1, hK2, hcnt⟩ := hI'
  have hn : ∀ k, k ≤ l → mh_ok (nu (t * 4 + k)) ∧ nu (t * 4 + k) ≠ 0 ∧ 0 ≤ tc (t * 4 + k) := by
    obtain ⟨l0, g4, gl, gn⟩ := hK2 t ht ho
    intro k hk
    exact gn k ((mh_sl_iff ht ho gl g4 k).mp ((mh_sl_iff ht ho hl h4 k).mpr hk))
  obtain ⟨b, hbb, HB⟩ := mh_blocked C R us ro vl mk en op sn lv nu tc ov al hK2 ht hr
  have b0 : b = 0 := by
    rcases hbb with h | h | h
    · exact absurd h.2 hb
    · exact absurd h.2.2 hv
    · exact h.1
  subst b0
  obtain ⟨x, hx, HX⟩ := mh_versionOf C R us ro vl mk en op sn lv nu tc ov al hK1 ht hl h4 hn (nI r)
  obtain ⟨us', ro', vl', mk', en', hW, HW⟩ := mh_write (vl := vl) (al := al) hI hc ht ho hl h4 hr hb hv hx y
  by_cases q : 0 ≤ x
  · refine ⟨1, us', ro', vl', mk', en', ⟨Or.inr rfl, hW⟩, fun post hp => ?_⟩
    unfold wpX_put
    exact mh_refr_o ht ho hr (br_t (by decide) (HB _ (br_t (by decide) (HX _ (HW _ (br_t q hp))))))
  · refine ⟨0, us', ro', vl', mk', en', ⟨Or.inl rfl, hW⟩, fun post hp => ?_⟩
    unfold wpX_put
    exact mh_refr_o ht ho hr (br_t (by decide) (HB _ (br_t (by decide) (HX _ (HW _ (br_f q hp))))))
/-- a put of a row that another transaction has changed -/
theorem mh_put_b (hI : mh_I c C R us ro mk en op sn lv nu tc ov) {t r : Nat} (ht : t < 4) (ho : op t ≠ 0) (hr : r < 8) (hb : mh_bl op lv tc t (nI r)) (y : Int32) {post : Int32 → St1 → Prop} (hp : post (-4) (C, R, us, ro, vl, mk, en, op, sn, lv, nu, tc, ov, al)) :
    wpX_put post (C, R, us, ro, vl, mk, en, op, sn, lv, nu, tc, ov, al) (nI t) (nI r) y := by
  obtain ⟨b, hbb, HB⟩ := mh_blocked C R us ro vl mk en op sn lv nu tc ov al hI.2.2.1 ht hr
  have b0 : b = -4 := by
    rcases hbb with h | h | h
    · exact h.1
    · exact absurd hb h.2.1
    · exact absurd hb h.2.1
  subst b0
  unfold wpX_put
  exact mh_refr_o ht ho hr (br_t (by decide) (HB _ (br_f (by decide) hp)))
theorem mh_put_s (hI : mh_I c C R us ro mk en op sn lv nu tc ov) {t r : Nat} (ht : t < 4) (ho : op t ≠ 0) (hr : r < 8) (hb : ¬ mh_bl op lv tc t (nI r)) (hv : mh_ov ov t (nI r)) (y : Int32) {post : Int32 → St1 → Prop} (hp : post (-5) (C, R, us, ro, vl, mk, en, op, sn, lv, nu, tc, ov, al)) :
    wpX_put post (C, R, us, ro, vl, mk, en, op, sn, lv, nu, tc, ov, al) (nI t) (nI r) y := by
  obtain ⟨b, hbb, HB⟩ := mh_blocked C R us ro vl mk en op sn lv nu tc ov al hI.2.2.1 ht hr
  have b0 : b = -5 := by
    rcases hbb with h | h | h
    · exact absurd h.2 hb
    · exact h.1
    · exact absurd hv h.2.2
  subst b0
  unfold wpX_put
  exact mh_refr_o ht ho hr (br_t (by decide) (HB _ (br_f (by decide) hp)))
theorem mh_put (hI : mh_I c C R us ro mk en op sn lv nu tc ov) (hc : c < 96) (x x' y : Int32) :
    ∃ (r : Int32) (u : St1), mh_IS (c + 1) u ∧ ∀ post : Int32 → St1 → Prop, post r u → wpX_put post (C, R, us, ro, vl, mk, en, op, sn, lv, nu, tc, ov, al) x x' y := by
  have hI1 := mh_I_up hI (Nat.le_succ c)
  rcases mh_arg x (n := 4) (by decide) with h | ⟨t, ht, rfl⟩
  · refine ⟨-1, (C, R, us, ro, vl, mk, en, op, sn, lv, nu, tc, ov, al), hI1, fun post hp => ?_⟩
    unfold wpX_put
    exact mh_refr_b h (br_f (by decide) hp)
  · by_cases ho : op t = 0
    · refine ⟨-2, (C, R, us, ro, vl, mk, en, op, sn, lv, nu, tc, ov, al), hI1, fun post hp => ?_⟩
      unfold wpX_put
      exact mh_refr_c ht ho (br_f (by decide) hp)
    · rcases mh_arg x' (n := 8) (by decide) with h | ⟨r, hr, rfl⟩
      · refine ⟨-1, (C, R, us, ro, vl, mk, en, op, sn, lv, nu, tc, ov, al), hI1, fun post hp => ?_⟩
        unfold wpX_put
        exact mh_refr_r ht ho h (br_f (by decide) hp)
      · by_cases hb : mh_bl op lv tc t (nI r)
        · exact ⟨-4, (C, R, us, ro, vl, mk, en, op, sn, lv, nu, tc, ov, al), hI1, fun post hp => mh_put_b hI ht ho hr hb y hp⟩
        · by_cases hv : mh_ov ov t (nI r)
          · exact ⟨-5, (C, R, us, ro, vl, mk, en, op, sn, lv, nu, tc, ov, al), hI1, fun post hp => mh_put_s hI ht ho hr hb hv y hp⟩
          · obtain ⟨l, h4, hl, _⟩ := hI.2.2.1 t ht ho
            obtain ⟨z, us', ro', vl', mk', en', ⟨_, hW⟩, H⟩ := mh_put_w (vl := vl) (al := al) hI hc ht ho hl h4 hr hb hv y
            exact ⟨z, (C, R, us', ro', vl', mk', en', op, sn, lv, nu, mh_tu tc t l r, ov, al), hW.1, H⟩
/-- an add to a row that another transaction has changed -/
theorem mh_add_b (hI : mh_I c C R us ro mk en op sn lv nu tc ov) {t r : Nat} (ht : t < 4) (ho : op t ≠ 0) (hr : r < 8) (hb : mh_bl op lv tc t (nI r)) (y : Int32) :
    ∃ z : Int32, (z = -3 ∨ z = -4) ∧ ∀ post : Int32 → St1 → Prop, post z (C, R, us, ro, vl, mk, en, op, sn, lv, nu, tc, ov, al) → wpX_add post (C, R, us, ro, vl, mk, en, op, sn, lv, nu, tc, ov, al) (nI t) (nI r) y := by
  obtain ⟨hJ, hK1, hK2, hcnt⟩ := hI
  obtain ⟨l, h4, hl, hn⟩ := hK2 t ht ho
  obtain ⟨x, hx, HX⟩ := mh_versionOf C R us ro vl mk en op sn lv nu tc ov al hK1 ht hl h4 hn (nI r)
  obtain ⟨b, hbb, HB⟩ := mh_blocked C R us ro vl mk en op sn lv nu tc ov al hK2 ht hr
  have b0 : b = -4 := by
    rcases hbb with h | h | h
    · exact h.1
    · exact absurd hb h.2.1
    · exact absurd hb h.2.1
  subst b0
  by_cases q : 0 ≤ x
  · refine ⟨-4, Or.inr rfl, fun post hp => ?_⟩
    unfold wpX_add
    exact mh_refr_o ht ho hr (br_t (by decide) (HX _ (br_t q (HB _ (br_f (by decide) hp)))))
  · refine ⟨-3, Or.inl rfl, fun post hp => ?_⟩
    unfold wpX_add
    exact mh_refr_o ht ho hr (br_t (by decide) (HX _ (br_f q hp)))
theorem mh_add (hI : mh_I c C R us ro mk en op sn lv nu tc ov) (hc : c < 96) (x x' y : Int32) :
    ∃ (r : Int32) (u : St1), mh_IS (c + 1) u ∧ ∀ post : Int32 → St1 → Prop, post r u → wpX_add post (C, R, us, ro, vl, mk, en, op, sn, lv, nu, tc, ov, al) x x' y := by
  have hI1 := mh_I_up hI (Nat.le_succ c)
  rcases mh_arg x (n := 4) (by decide) with h | ⟨t, ht, rfl⟩
  · refine ⟨-1, (C, R, us, ro, vl, mk, en, op, sn, lv, nu, tc, ov, al), hI1, fun post hp => ?_⟩
    unfold wpX_add
    exact mh_refr_b h (br_f (by decide) hp)
  · by_cases ho : op t = 0
    · refine ⟨-2, (C, R, us, ro, vl, mk, en, op, sn, lv, nu, tc, ov, al), hI1, fun post hp => ?_⟩
      unfold wpX_add
      exact mh_refr_c ht ho (br_f (by decide) hp)
    · rcases mh_arg x' (n := 8) (by decide) with h | ⟨r, hr, rfl⟩
      · refine ⟨-1, (C, R, us, ro, vl, mk, en, op, sn, lv, nu, tc, ov, al), hI1, fun post hp => ?_⟩
        unfold wpX_add
        exact mh_refr_r ht ho h (br_f (by decide) hp)
      · have hI' := hI
        obtain ⟨hJ, hK1, hK2, hcnt⟩ := hI'
        obtain ⟨l, h4, hl, hn⟩ := hK2 t ht ho
        obtain ⟨z, hz, HX⟩ := mh_versionOf C R us ro vl mk en op sn lv nu tc ov al hK1 ht hl h4 hn (nI r)
        by_cases q : 0 ≤ z
        · obtain ⟨b, hbb, HB⟩ := mh_blocked C R us ro vl mk en op sn lv nu tc ov al hK2 ht hr
          obtain ⟨v, hv96, e, _⟩ := mh_LK_pos hz q
          rcases hbb with ⟨rfl, _⟩ | ⟨rfl, _⟩ | ⟨rfl, hb, hv⟩
          · refine ⟨-4, (C, R, us, ro, vl, mk, en, op, sn, lv, nu, tc, ov, al), hI1, fun post hp => ?_⟩
            unfold wpX_add
            exact mh_refr_o ht ho hr (br_t (by decide) (HX _ (br_t q (HB _ (br_f (by decide) hp)))))
          · refine ⟨-5, (C, R, us, ro, vl, mk, en, op, sn, lv, nu, tc, ov, al), hI1, fun post hp => ?_⟩
            unfold wpX_add
            exact mh_refr_o ht ho hr (br_t (by decide) (HX _ (br_t q (HB _ (br_f (by decide) hp)))))
          · obtain ⟨us', ro', vl', mk', en', hW, HW⟩ := mh_write (vl := vl) (al := al) hI hc ht ho hl h4 hr hb hv hz (vl z.toNatClampNeg + y)
            refine ⟨0, (C, R, us', ro', vl', mk', en', op, sn, lv, nu, mh_tu tc t l r, ov, al), hW.1, fun post hp => ?_⟩
            unfold wpX_add
            exact mh_refr_o ht ho hr (br_t (by decide) (HX _ (br_t q (HB _ (br_t (by decide) ⟨by rw [e]; exact pk_in v 96 hv96, HW _ hp⟩)))))
        · refine ⟨-3, (C, R, us, ro, vl, mk, en, op, sn, lv, nu, tc, ov, al), hI1, fun post hp => ?_⟩
          unfold wpX_add
          exact mh_refr_o ht ho hr (br_t (by decide) (HX _ (br_f q hp)))
theorem mh_drop (hI : mh_I c C R us ro mk en op sn lv nu tc ov) (x x' : Int32) :
    ∃ (r : Int32) (u : St1), mh_IS c u ∧ ∀ post : Int32 → St1 → Prop, post r u → wpX_drop post (C, R, us, ro, vl, mk, en, op, sn, lv, nu, tc, ov, al) x x' := by
  rcases mh_arg x (n := 4) (by decide) with h | ⟨t, ht, rfl⟩
  · refine ⟨-1, (C, R, us, ro, vl, mk, en, op, sn, lv, nu, tc, ov, al), hI, fun post hp => ?_⟩
    unfold wpX_drop
    exact mh_refr_b h (br_f (by decide) hp)
  · by_cases ho : op t = 0
    · refine ⟨-2, (C, R, us, ro, vl, mk, en, op, sn, lv, nu, tc, ov, al), hI, fun post hp => ?_⟩
      unfold wpX_drop
      exact mh_refr_c ht ho (br_f (by decide) hp)
    · rcases mh_arg x' (n := 8) (by decide) with h | ⟨r, hr, rfl⟩
      · refine ⟨-1, (C, R, us, ro, vl, mk, en, op, sn, lv, nu, tc, ov, al), hI, fun post hp => ?_⟩
        unfold wpX_drop
        exact mh_refr_r ht ho h (br_f (by decide) hp)
      · have hI' := hI
        obtain ⟨hJ, hK1, hK2, hcnt⟩ := hI'
        obtain ⟨l, h4, hl, hn⟩ := hK2 t ht ho
        obtain ⟨z, hz, HX⟩ := mh_versionOf C R us ro vl mk en op sn lv nu tc ov al hK1 ht hl h4 hn (nI r)
        by_cases q : 0 ≤ z
        · obtain ⟨b, hbb, HB⟩ := mh_blocked C R us ro vl mk en op sn lv nu tc ov al hK2 ht hr
          obtain ⟨v, hv96, rfl, q1, q2, _⟩ := mh_LK_pos hz q
          rcases hbb with ⟨rfl, _⟩ | ⟨rfl, _⟩ | ⟨rfl, hb, hv⟩
          · refine ⟨-4, (C, R, us, ro, vl, mk, en, op, sn, lv, nu, tc, ov, al), hI, fun post hp => ?_⟩
            unfold wpX_drop
            exact mh_refr_o ht ho hr (br_t (by decide) (HX _ (br_t q (HB _ (br_f (by decide) hp)))))
          · refine ⟨-5, (C, R, us, ro, vl, mk, en, op, sn, lv, nu, tc, ov, al), hI, fun post hp => ?_⟩
            unfold wpX_drop
            exact mh_refr_o ht ho hr (br_t (by decide) (HX _ (br_t q (HB _ (br_f (by decide) hp)))))
          · obtain ⟨j1, j2, j3⟩ := mh_touch (t := t) (l := l) (r := r) hJ hK2 h4 hr hb hv
            have hs : mh_sl op lv t l := (mh_sl_iff ht ho hl h4 l).mpr (Nat.le_refl l)
            have htop : ∀ k, mh_sl op lv t k → k ≤ l := fun k h => (mh_sl_iff ht ho hl h4 k).mp h
            obtain ⟨e1, _⟩ := mh_T_end (t := t) (l := l) (x := v) (en' := upd en v (nu (t * 4 + l))) j1 hs htop q1 (by rw [q2]; exact j3) pk_us (fun y h => pk_un h)
            have ix : t * 4 + l < 2 ^ 31 := by omega
            have i16 : t * 4 + l < 16 := by omega
            refine ⟨0, (C, R, us, ro, vl, mk, upd en v (nu (t * 4 + l)), op, sn, lv, nu, mh_tu tc t l r, ov, al), ⟨e1, fun v' hv' => ?_, j2, hcnt⟩, fun post hp => ?_⟩
            · obtain ⟨o1, o2, o3⟩ := hK1 v' hv'
              refine ⟨o1, ?_, o3⟩
              by_cases qv : v' = v
              · subst qv
                rw [pk_us]
                exact (hn l (Nat.le_refl l)).1
              · rw [pk_un qv]
                exact o2
            · unfold wpX_drop
              refine mh_refr_o ht ho hr (br_t (by decide) (HX _ (br_t q (HB _ (br_t (by decide) (mh_current ht hl (mh_current ht hl ⟨pk_in (t * 4 + l) 16 i16, pk_in (t * 4 + l) 16 i16, ?_⟩)))))))
              rw [nI_clamp ix]
              refine nm_e (mh_current ht hl ⟨pk_in (t * 4 + l) 16 i16, pk_in v 96 hv96, ?_⟩)
              rw [nI_clamp ix, nI_clamp (show v < 2 ^ 31 by omega)]
              exact nm_e hp
        · refine ⟨-3, (C, R, us, ro, vl, mk, en, op, sn, lv, nu, tc, ov, al), hI, fun post hp => ?_⟩
          unfold wpX_drop
          exact mh_refr_o ht ho hr (br_t (by decide) (HX _ (br_f q hp)))
end
end
section
/-! one turn; questions -/
theorem mh_turn {c : Nat} {u : St1} (hI : mh_IS c u) (hc : c < 96) (p1 p2 p3 p4 : Int32) :
    ∃ (r : Int32) (u' : St1), mh_IS (c + 1) u' ∧ ∀ post : Int32 → St1 → Prop, post r u' → wpL_turn post u p1 p2 p3 p4 := by
  obtain ⟨C, R, us, ro, vl, mk, en, op, sn, lv, nu, tc, ov, al⟩ := u
  have hJ : mh_I c C R us ro mk en op sn lv nu tc ov := hI
  have up : ∀ u' : St1, mh_IS c u' → mh_IS (c + 1) u' := by
    rintro ⟨C, R, us, ro, vl, mk, en, op, sn, lv, nu, tc, ov, al⟩ h
    exact mh_I_up h (Nat.le_succ c)
  by_cases h3 : 3 ≤ p1 &&& 15
  · by_cases h7 : 7 ≤ p1 &&& 15
    · by_cases e7 : p1 &&& 15 = 7
      · obtain ⟨r, ⟨f1, f2, b1, b2, b3, b4, b5, b6, b7, b8, b9, b10, b11, b12⟩, h, H⟩ := mh_add (vl := vl) (al := al) hJ hc p2 p3 p4
        exact ⟨r, _, h, fun post hp => nm_e (br_t h3 (br_t h7 (br_t e7 (H _ hp))))⟩
      · by_cases e8 : p1 &&& 15 = 8
        · obtain ⟨r, ⟨f1, f2, b1, b2, b3, b4, b5, b6, b7, b8, b9, b10, b11, b12⟩, h, H⟩ := mh_drop (vl := vl) (al := al) hJ p2 p3
          exact ⟨r, _, up _ h, fun post hp => nm_e (br_t h3 (br_t h7 (br_f e7 (br_t e8 (H _ hp)))))⟩
        · by_cases e9 : p1 &&& 15 = 9
          · obtain ⟨r, ⟨f1, f2, b1, b2, b3, b4, b5, b6, b7, b8, b9, b10, b11, b12⟩, h, H⟩ := mh_save (vl := vl) (al := al) hJ p2
            exact ⟨r, _, up _ h, fun post hp => nm_e (br_t h3 (br_t h7 (br_f e7 (br_f e8 (br_t e9 (H _ hp))))))⟩
          · by_cases e10 : p1 &&& 15 = 10
            · obtain ⟨r, ⟨f1, f2, b1, b2, b3, b4, b5, b6, b7, b8, b9, b10, b11, b12⟩, h, H⟩ := mh_back (vl := vl) (al := al) hJ p2
              exact ⟨r, _, up _ h, fun post hp => nm_e (br_t h3 (br_t h7 (br_f e7 (br_f e8 (br_f e9 (br_t e10 (H _ hp)))))))⟩
            · by_cases h13 : 13 ≤ p1 &&& 15
              · by_cases e13 : p1 &&& 15 = 13
                · obtain ⟨r, ⟨f1, f2, b1, b2, b3, b4, b5, b6, b7, b8, b9, b10, b11, b12⟩, h, H⟩ := mh_abort (vl := vl) (al := al) hJ p2
                  exact ⟨r, _, up _ h, fun post hp => nm_e (br_t h3 (br_t h7 (br_f e7 (br_f e8 (br_f e9 (br_f e10 (br_t h13 (br_t e13 (H _ hp)))))))))⟩
                · by_cases e14 : p1 &&& 15 = 14
                  · obtain ⟨op', ⟨h, _⟩, H⟩ := mh_crash (vl := vl) (al := al) hJ
                    exact ⟨nI (mh_cnt op 4), (C, 0, us, ro, vl, mk, en, op', sn, lv, nu, tc, ov, al), up _ h, fun post hp => nm_e (br_t h3 (br_t h7 (br_f e7 (br_f e8 (br_f e9 (br_f e10 (br_t h13 (br_f e13 (br_t e14 (H _ hp))))))))))⟩
                  · by_cases e0 : p2 ≤ 0
                    · obtain ⟨⟨f1, f2, b1, b2, b3, b4, b5, b6, b7, b8, b9, b10, b11, b12⟩, h, H⟩ := mh_flush (vl := vl) (al := al) hJ
                      exact ⟨0, _, up _ h, fun post hp => nm_e (br_t h3 (br_t h7 (br_f e7 (br_f e8 (br_f e9 (br_f e10 (br_t h13 (br_f e13 (br_f e14 (br_t e0 (H _ hp)))))))))))⟩
                    · obtain ⟨⟨f1, f2, b1, b2, b3, b4, b5, b6, b7, b8, b9, b10, b11, b12⟩, h, H⟩ := mh_vacuum (vl := vl) (al := al) hJ
                      exact ⟨0, _, up _ h, fun post hp => nm_e (br_t h3 (br_t h7 (br_f e7 (br_f e8 (br_f e9 (br_f e10 (br_t h13 (br_f e13 (br_f e14 (br_f e0 (H _ hp)))))))))))⟩
              · obtain ⟨r, ⟨f1, f2, b1, b2, b3, b4, b5, b6, b7, b8, b9, b10, b11, b12⟩, h, H⟩ := mh_commit (vl := vl) (al := al) hJ p2
                exact ⟨r, _, up _ h, fun post hp => nm_e (br_t h3 (br_t h7 (br_f e7 (br_f e8 (br_f e9 (br_f e10 (br_f h13 (H _ hp))))))))⟩
    · obtain ⟨r, ⟨f1, f2, b1, b2, b3, b4, b5, b6, b7, b8, b9, b10, b11, b12⟩, h, H⟩ := mh_put (vl := vl) (al := al) hJ hc p2 p3 p4
      exact ⟨r, _, h, fun post hp => nm_e (br_t h3 (br_f h7 (H _ hp)))⟩
  · obtain ⟨r, ⟨f1, f2, b1, b2, b3, b4, b5, b6, b7, b8, b9, b10, b11, b12⟩, h, H⟩ := mh_open (vl := vl) (al := al) hJ p2
    exact ⟨r, _, up _ h, fun post hp => nm_e (br_f h3 (H _ hp))⟩
section
variable {C R : Int64} {us ro vl mk en op : Nat → Int32} {sn : Nat → Int64} {lv nu tc ov al : Nat → Int32} {c : Nat}
def mh_hv (x : Int32) : Int32 := if x < 0 then 0 else 1
def mh_gv (vl : Nat → Int32) (x : Int32) : Int32 := if 0 ≤ x then vl x.toNatClampNeg else 0
theorem mh_vin {ro : Nat → Int32} {q : Nat → Prop} {r x : Int32} (h : mh_LK ro q r x) (hx : 0 ≤ x) : vp_in x 96 := by
  obtain ⟨v, hv, rfl, _⟩ := mh_LK_pos h hx
  exact pk_in v 96 hv
theorem mh_has_c {post : Int32 → Prop} {t : Nat} {x : Int32} (ht : t < 4) (ho : op t = 0) (hp : post 0) : wpX_has post (C, R, us, ro, vl, mk, en, op, sn, lv, nu, tc, ov, al) (nI t) x := by
  unfold wpX_has
  exact mh_refr_c ht ho (br_f (by decide) hp)
theorem mh_get_c {post : Int32 → Prop} {t : Nat} {x : Int32} (ht : t < 4) (ho : op t = 0) (hp : post 0) : wpX_get post (C, R, us, ro, vl, mk, en, op, sn, lv, nu, tc, ov, al) (nI t) x := by
  unfold wpX_get
  exact mh_refr_c ht ho (br_f (by decide) hp)
theorem mh_count_c {post : Int32 → Prop} {t : Nat} (ht : t < 4) (ho : op t = 0) (hp : post (-2)) : wpX_count post (C, R, us, ro, vl, mk, en, op, sn, lv, nu, tc, ov, al) (nI t) := by
  unfold wpX_count
  exact mh_ref_c ht ho (br_f (by decide) hp)
theorem mh_changed_c {post : Int32 → Prop} {t : Nat} (ht : t < 4) (ho : op t = 0) (hp : post (-2)) : wpX_changed post (C, R, us, ro, vl, mk, en, op, sn, lv, nu, tc, ov, al) (nI t) := by
  unfold wpX_changed
  exact mh_ref_c ht ho (br_f (by decide) hp)
theorem mh_changed_o {post : Int32 → Prop} {t l : Nat} (ht : t < 4) (ho : op t ≠ 0) (hl : lv t = nI l) (h4 : l < 4) (hp : post (mh_cb (fun k => tc (t * 4 + k)) (l + 1))) : wpX_changed post (C, R, us, ro, vl, mk, en, op, sn, lv, nu, tc, ov, al) (nI t) := by
  unfold wpX_changed
  exact mh_ref_o ht ho (br_t (by decide) (mh_changedBy ht hl h4 hp))
theorem mh_look_o (C R : Int64) (us ro vl mk en op : Nat → Int32) (sn : Nat → Int64) (lv nu tc ov al : Nat → Int32) (hK1 : mh_K1 us ro mk en) {t l r : Nat} (ht : t < 4) (ho : op t ≠ 0) (hl : lv t = nI l) (h4 : l < 4) (hn : ∀ k, k ≤ l → mh_ok (nu (t * 4 + k)) ∧ nu (t * 4 + k) ≠ 0 ∧ 0 ≤ tc (t * 4 + k)) (hr : r < 8) :
    ∃ x, mh_LK ro (mh_Q (mh_U us) mk en (mh_VS (mh_sn sn) (mh_nu nu) t l)) (nI r) x ∧
      (∀ post : Int32 → Prop, post (mh_hv x) → wpX_has post (C, R, us, ro, vl, mk, en, op, sn, lv, nu, tc, ov, al) (nI t) (nI r)) ∧
      (∀ post : Int32 → Prop, post (mh_gv vl x) → wpX_get post (C, R, us, ro, vl, mk, en, op, sn, lv, nu, tc, ov, al) (nI t) (nI r)) := by
  obtain ⟨x, hx, HX⟩ := mh_versionOf C R us ro vl mk en op sn lv nu tc ov al hK1 ht hl h4 hn (nI r)
  refine ⟨x, hx, fun post hp => ?_, fun post hp => ?_⟩
  · unfold wpX_has
    unfold mh_hv at hp
    refine mh_refr_o ht ho hr (br_t rfl (HX _ ?_))
    by_cases q : x < 0
    · rw [if_pos q] at hp
      exact br_t q hp
    · rw [if_neg q] at hp
      exact br_f q hp
  · unfold wpX_get
    unfold mh_gv at hp
    refine mh_refr_o ht ho hr (br_t (by decide) (HX _ ?_))
    by_cases q : 0 ≤ x
    · rw [if_pos q] at hp
      exact br_t q ⟨mh_vin hx q, hp⟩
    · rw [if_neg q] at hp
      exact br_f q hp
theorem mh_count_o (C R : Int64) (us ro vl mk en op : Nat → Int32) (sn : Nat → Int64) (lv nu tc ov al : Nat → Int32) (hK1 : mh_K1 us ro mk en) {t l : Nat} (ht : t < 4) (ho : op t ≠ 0) (hl : lv t = nI l) (h4 : l < 4) (hn : ∀ k, k ≤ l → mh_ok (nu (t * 4 + k)) ∧ nu (t * 4 + k) ≠ 0 ∧ 0 ≤ tc (t * 4 + k)) :
    ∃ X : Nat → Int32, (∀ r, r < 8 → mh_LK ro (mh_Q (mh_U us) mk en (mh_VS (mh_sn sn) (mh_nu nu) t l)) (nI r) (X r)) ∧
      ∀ post : Int32 → Prop, post (nI (mh_ct X 8)) → wpX_count post (C, R, us, ro, vl, mk, en, op, sn, lv, nu, tc, ov, al) (nI t) := by
  have hX : ∀ r : Nat, ∃ x, mh_LK ro (mh_Q (mh_U us) mk en (mh_VS (mh_sn sn) (mh_nu nu) t l)) (nI r) x ∧ ∀ post : Int32 → Prop, post x → wpX_versionOf post (C, R, us, ro, vl, mk, en, op, sn, lv, nu, tc, ov, al) (nI t) (nI r) :=
    fun r => mh_versionOf C R us ro vl mk en op sn lv nu tc ov al hK1 ht hl h4 hn (nI r)
  refine ⟨fun r => Classical.choose (hX r), fun r _ => (Classical.choose_spec (hX r)).1, fun post hp => ?_⟩
  have main := mh_lp0 (fun (post : Int32 → Prop) n i (x : Nat) => wX_count_17 post (nI t) C R us ro vl mk en op sn lv nu tc ov al n (nI x) (nI i)) 8 (fun i x => x = mh_ct (fun r => Classical.choose (hX r)) i) (fun z => z = nI (mh_ct (fun r => Classical.choose (hX r)) 8)) 0 rfl (by
    intro i x hi hP
    have HX := (Classical.choose_spec (hX i)).2
    by_cases q : 0 ≤ Classical.choose (hX i)
    · refine Or.inr ⟨x + 1, ?_, fun post n hw => pk_le 8 i (fun z => absurd z (by omega)) (fun _ => HX _ (br_t q (nm_r (nI_1 x) (nm_r (nI_1 i) hw))))⟩
      show x + 1 = mh_ct _ (i + 1)
      unfold mh_ct
      rw [if_pos q, hP]
    · refine Or.inr ⟨x, ?_, fun post n hw => pk_le 8 i (fun z => absurd z (by omega)) (fun _ => HX _ (br_f q (nm_r (nI_1 i) hw)))⟩
      show x = mh_ct _ (i + 1)
      unfold mh_ct
      rw [if_neg q, hP]
      rfl) (by
    intro x hP
    exact ⟨nI x, by rw [hP], fun post n hp => pk_le 8 8 (fun _ => hp) (fun z => absurd z (by omega))⟩)
  obtain ⟨z, rfl, H⟩ := main
  unfold wpX_count
  exact mh_ref_o ht ho (br_t (by decide) (H post hp))
theorem mh_rows (C R : Int64) (us ro vl mk en op : Nat → Int32) (sn : Nat → Int64) (lv nu tc ov al : Nat → Int32) (hK1 : mh_K1 us ro mk en) :
    ∃ X : Nat → Int32, (∀ r, r < 8 → mh_LK ro (mh_Q (mh_U us) mk en (mh_st C)) (nI r) (X r)) ∧
      ∀ post : Int32 → Prop, post (nI (mh_ct X 8)) → wpX_rows post (C, R, us, ro, vl, mk, en, op, sn, lv, nu, tc, ov, al) := by
  have hX : ∀ r : Nat, ∃ x, mh_LK ro (mh_Q (mh_U us) mk en (mh_st C)) (nI r) x ∧ ∀ post : Int32 → Prop, post x → wpX_versionFor post (C, R, us, ro, vl, mk, en, op, sn, lv, nu, tc, ov, al) C (nI r) :=
    fun r => mh_versionFor C R us ro vl mk en op sn lv nu tc ov al hK1 C (nI r)
  refine ⟨fun r => Classical.choose (hX r), fun r _ => (Classical.choose_spec (hX r)).1, fun post hp => ?_⟩
  have main := mh_lp0 (fun (post : Int32 → Prop) n i (x : Nat) => wX_rows_4 post C R us ro vl mk en op sn lv nu tc ov al n (nI x) (nI i)) 8 (fun i x => x = mh_ct (fun r => Classical.choose (hX r)) i) (fun z => z = nI (mh_ct (fun r => Classical.choose (hX r)) 8)) 0 rfl (by
    intro i x hi hP
    have HX := (Classical.choose_spec (hX i)).2
    by_cases q : 0 ≤ Classical.choose (hX i)
    · refine Or.inr ⟨x + 1, ?_, fun post n hw => pk_le 8 i (fun z => absurd z (by omega)) (fun _ => HX _ (br_t q (nm_r (nI_1 x) (nm_r (nI_1 i) hw))))⟩
      show x + 1 = mh_ct _ (i + 1)
      unfold mh_ct
      rw [if_pos q, hP]
    · refine Or.inr ⟨x, ?_, fun post n hw => pk_le 8 i (fun z => absurd z (by omega)) (fun _ => HX _ (br_f q (nm_r (nI_1 i) hw)))⟩
      show x = mh_ct _ (i + 1)
      unfold mh_ct
      rw [if_neg q, hP]
      rfl) (by
    intro x hP
    exact ⟨nI x, by rw [hP], fun post n hp => pk_le 8 8 (fun _ => hp) (fun z => absurd z (by omega))⟩)
  obtain ⟨z, rfl, H⟩ := main
  exact H post hp
theorem mh_committed (C R : Int64) (us ro vl mk en op : Nat → Int32) (sn : Nat → Int64) (lv nu tc ov al : Nat → Int32) (hK1 : mh_K1 us ro mk en) {r : Nat} (hr : r < 8) :
    ∃ x, mh_LK ro (mh_Q (mh_U us) mk en (mh_st C)) (nI r) x ∧ ∀ post : Int32 → Prop, post (mh_gv vl x) → wpX_committed post (C, R, us, ro, vl, mk, en, op, sn, lv, nu, tc, ov, al) (nI r) := by
  obtain ⟨x, hx, HX⟩ := mh_versionFor C R us ro vl mk en op sn lv nu tc ov al hK1 C (nI r)
  refine ⟨x, hx, fun post hp => ?_⟩
  unfold mh_gv at hp
  refine br_f (nI_pos (by omega)) (br_t (nI_lt (b := 8) hr (by decide)) (HX _ ?_))
  by_cases q : 0 ≤ x
  · rw [if_pos q] at hp
    exact br_t q ⟨mh_vin hx q, hp⟩
  · rw [if_neg q] at hp
    exact br_f q hp
end
end
section
/-! two heaps asked the same -/
section
variable {C R : Int64} {us ro vl mk en op : Nat → Int32} {sn : Nat → Int64} {lv nu tc ov al : Nat → Int32} {C2 R2 : Int64} {us2 ro2 vl2 mk2 en2 op2 : Nat → Int32} {sn2 : Nat → Int64} {lv2 nu2 tc2 ov2 al2 : Nat → Int32}
theorem mh_kv_tr {us ro vl mk en us2 ro2 vl2 mk2 en2 us3 ro3 vl3 mk3 en3 : Nat → Int32} {S S2 S3 : Int32 → Prop} (h : mh_kv us ro vl mk en S us2 ro2 vl2 mk2 en2 S2) (h2 : mh_kv us2 ro2 vl2 mk2 en2 S2 us3 ro3 vl3 mk3 en3 S3) : mh_kv us ro vl mk en S us3 ro3 vl3 mk3 en3 S3 := by
  intro v
  obtain ⟨a1, a2⟩ := h v
  obtain ⟨b1, b2⟩ := h2 v
  refine ⟨b1.trans a1, fun z => ?_⟩
  obtain ⟨c1, c2⟩ := a2 z
  obtain ⟨d1, d2⟩ := b2 (a1.mpr z)
  exact ⟨d1.trans c1, d2.trans c2⟩
theorem mh_kv_sy {us ro vl mk en us2 ro2 vl2 mk2 en2 : Nat → Int32} {S S2 : Int32 → Prop} (h : mh_kv us ro vl mk en S us2 ro2 vl2 mk2 en2 S2) : mh_kv us2 ro2 vl2 mk2 en2 S2 us ro vl mk en S := by
  intro v
  obtain ⟨a1, a2⟩ := h v
  refine ⟨a1.symm, fun z => ?_⟩
  obtain ⟨c1, c2⟩ := a2 (a1.mp z)
  exact ⟨c1.symm, c2.symm⟩
theorem mh_LK_kv {us ro vl mk en us2 ro2 vl2 mk2 en2 : Nat → Int32} {S S2 : Int32 → Prop} {r x x2 : Int32} (h : mh_kv us ro vl mk en S us2 ro2 vl2 mk2 en2 S2) (hx : mh_LK ro (mh_Q (mh_U us) mk en S) r x) (hx2 : mh_LK ro2 (mh_Q (mh_U us2) mk2 en2 S2) r x2) : x2 = x :=
  mh_LK_eq hx hx2 (fun v => (h v).1) (fun v z => ((h v).2 z).1)
theorem mh_gv_eq {us ro vl mk en us2 ro2 vl2 mk2 en2 : Nat → Int32} {S S2 : Int32 → Prop} {r x x2 : Int32} (h : mh_kv us ro vl mk en S us2 ro2 vl2 mk2 en2 S2) (hx : mh_LK ro (mh_Q (mh_U us) mk en S) r x) (hx2 : mh_LK ro2 (mh_Q (mh_U us2) mk2 en2 S2) r x2) : mh_gv vl2 x2 = mh_gv vl x := by
  rw [mh_LK_kv h hx hx2]
  unfold mh_gv
  by_cases q : 0 ≤ x
  · obtain ⟨v, hv, rfl, hq, _⟩ := mh_LK_pos hx q
    rw [if_pos q, if_pos q, nI_clamp (show v < 2 ^ 31 by omega), ((h v).2 hq).2]
  · rw [if_neg q, if_neg q]
/-- transaction t looks the same in both -/
def mh_AG (us ro vl mk en op : Nat → Int32) (sn : Nat → Int64) (lv nu tc : Nat → Int32) (us2 ro2 vl2 mk2 en2 op2 : Nat → Int32) (sn2 : Nat → Int64) (lv2 nu2 tc2 : Nat → Int32) (t : Nat) : Prop :=
  (op t = 0 ∧ op2 t = 0) ∨ (op t ≠ 0 ∧ op2 t ≠ 0 ∧ ∃ l l2, (l < 4 ∧ lv t = nI l) ∧ (l2 < 4 ∧ lv2 t = nI l2) ∧ mh_kv us ro vl mk en (mh_VS (mh_sn sn) (mh_nu nu) t l) us2 ro2 vl2 mk2 en2 (mh_VS (mh_sn sn2) (mh_nu nu2) t l2) ∧ mh_cb (fun k => tc (t * 4 + k)) (l + 1) = mh_cb (fun k => tc2 (t * 4 + k)) (l2 + 1))
theorem mh_seesL (hK1 : mh_K1 us ro mk en) (hK2 : mh_K2 op lv nu tc) (gK1 : mh_K1 us2 ro2 mk2 en2) (gK2 : mh_K2 op2 lv2 nu2 tc2) {t : Nat} (ht : t < 4) (hag : mh_AG us ro vl mk en op sn lv nu tc us2 ro2 vl2 mk2 en2 op2 sn2 lv2 nu2 tc2 t) {post : Int32 → Prop} (hp : post 1) : wpL_sees post (C, R, us, ro, vl, mk, en, op, sn, lv, nu, tc, ov, al, C2, R2, us2, ro2, vl2, mk2, en2, op2, sn2, lv2, nu2, tc2, ov2, al2) (nI t) := by
  have main : ∃ z : Int32, z = 1 ∧ ∀ post : Int32 → Prop, post z → wpL_sees post (C, R, us, ro, vl, mk, en, op, sn, lv, nu, tc, ov, al, C2, R2, us2, ro2, vl2, mk2, en2, op2, sn2, lv2, nu2, tc2, ov2, al2) (nI t) := by
    refine mh_lp0 (σ := Unit) (fun post n i _ => wL_sees_2 post (nI t) C R us ro vl mk en op sn lv nu tc ov al C2 R2 us2 ro2 vl2 mk2 en2 op2 sn2 lv2 nu2 tc2 ov2 al2 n (nI i)) 8 (fun _ _ => True) (fun z => z = 1) () trivial ?_ ?_
    · intro i _ hi _
      refine Or.inr ⟨(), trivial, fun post n hw => pk_le 8 i (fun z => absurd z (by omega)) (fun _ => ?_)⟩
      rcases hag with ⟨h1, h2⟩ | ⟨h1, h2, l, l2, ⟨h4, hl⟩, ⟨g4, gl⟩, hkv, hcb⟩
      · exact mh_has_c ht h1 (mh_has_c ht h2 (br_t rfl (mh_get_c ht h1 (mh_get_c ht h2 (br_t rfl (nm_r (nI_1 i) hw))))))
      · obtain ⟨l', q4, ql, qn⟩ := hK2 t ht h1
        have e : l' = l := (nI_eq (by omega) (by omega)).mp (ql.symm.trans hl)
        subst e
        obtain ⟨l2', q42, ql2, qn2⟩ := gK2 t ht h2
        have e : l2' = l2 := (nI_eq (by omega) (by omega)).mp (ql2.symm.trans gl)
        subst e
        obtain ⟨x, hx, H1, H2⟩ := mh_look_o C R us ro vl mk en op sn lv nu tc ov al hK1 ht h1 hl h4 qn hi
        obtain ⟨x2, hx2, G1, G2⟩ := mh_look_o C2 R2 us2 ro2 vl2 mk2 en2 op2 sn2 lv2 nu2 tc2 ov2 al2 gK1 ht h2 gl g4 qn2 hi
        exact H1 _ (G1 _ (br_t (by rw [mh_LK_kv hkv hx hx2]) (H2 _ (G2 _ (br_t (mh_gv_eq hkv hx hx2).symm (nm_r (nI_1 i) hw))))))
    · intro _ _
      refine ⟨1, rfl, fun post n hp => pk_le 8 8 (fun _ => ?_) (fun z => absurd z (by omega))⟩
      rcases hag with ⟨h1, h2⟩ | ⟨h1, h2, l, l2, ⟨h4, hl⟩, ⟨g4, gl⟩, hkv, hcb⟩
      · exact mh_count_c ht h1 (mh_count_c ht h2 (br_t rfl (mh_changed_c ht h1 (mh_changed_c ht h2 (br_t rfl hp)))))
      · obtain ⟨l', q4, ql, qn⟩ := hK2 t ht h1
        have e : l' = l := (nI_eq (by omega) (by omega)).mp (ql.symm.trans hl)
        subst e
        obtain ⟨l2', q42, ql2, qn2⟩ := gK2 t ht h2
        have e : l2' = l2 := (nI_eq (by omega) (by omega)).mp (ql2.symm.trans gl)
        subst e
        obtain ⟨X, hX, H1⟩ := mh_count_o C R us ro vl mk en op sn lv nu tc ov al hK1 ht h1 hl h4 qn
        obtain ⟨X2, hX2, G1⟩ := mh_count_o C2 R2 us2 ro2 vl2 mk2 en2 op2 sn2 lv2 nu2 tc2 ov2 al2 gK1 ht h2 gl g4 qn2
        have e : mh_ct X2 8 = mh_ct X 8 := mh_ct_congr 8 (fun k hk => mh_LK_kv hkv (hX k hk) (hX2 k hk))
        exact H1 _ (G1 _ (br_t (by rw [e]) (mh_changed_o ht h1 hl h4 (mh_changed_o ht h2 gl g4 (br_t hcb hp)))))
  obtain ⟨z, rfl, H⟩ := main
  exact H post hp
theorem mh_equalL (hK1 : mh_K1 us ro mk en) (hK2 : mh_K2 op lv nu tc) (gK1 : mh_K1 us2 ro2 mk2 en2) (gK2 : mh_K2 op2 lv2 nu2 tc2) (hkv : mh_kv us ro vl mk en (mh_st C) us2 ro2 vl2 mk2 en2 (mh_st C2))
    (hag : ∀ t, t < 4 → mh_AG us ro vl mk en op sn lv nu tc us2 ro2 vl2 mk2 en2 op2 sn2 lv2 nu2 tc2 t) {post : Int32 → Prop} (hp : post 1) : wpL_equal post (C, R, us, ro, vl, mk, en, op, sn, lv, nu, tc, ov, al, C2, R2, us2, ro2, vl2, mk2, en2, op2, sn2, lv2, nu2, tc2, ov2, al2) := by
  have main : ∃ z : Int32, z = 1 ∧ ∀ post : Int32 → Prop, post z → wpL_equal post (C, R, us, ro, vl, mk, en, op, sn, lv, nu, tc, ov, al, C2, R2, us2, ro2, vl2, mk2, en2, op2, sn2, lv2, nu2, tc2, ov2, al2) := by
    refine mh_lp0 (σ := Unit) (fun post n i _ => wL_equal_2 post C R us ro vl mk en op sn lv nu tc ov al C2 R2 us2 ro2 vl2 mk2 en2 op2 sn2 lv2 nu2 tc2 ov2 al2 n (nI i)) 8 (fun _ _ => True) (fun z => z = 1) () trivial ?_ ?_
    · intro i _ hi _
      obtain ⟨x, hx, H1⟩ := mh_committed C R us ro vl mk en op sn lv nu tc ov al hK1 hi
      obtain ⟨x2, hx2, G1⟩ := mh_committed C2 R2 us2 ro2 vl2 mk2 en2 op2 sn2 lv2 nu2 tc2 ov2 al2 gK1 hi
      have e : nI i &&& 3 = nI (i % 4) := pk_andN (n := i) (by omega) 2 (by decide)
      refine Or.inr ⟨(), trivial, fun post n hw => pk_le 8 i (fun z => absurd z (by omega)) (fun _ => H1 _ (G1 _ (br_t (mh_gv_eq hkv hx hx2).symm ?_)))⟩
      rw [e]
      exact mh_seesL hK1 hK2 gK1 gK2 (Nat.mod_lt _ (by decide)) (hag _ (Nat.mod_lt _ (by decide))) (br_f (by decide) (nm_r (nI_1 i) hw))
    · intro _ _
      obtain ⟨X, hX, H1⟩ := mh_rows C R us ro vl mk en op sn lv nu tc ov al hK1
      obtain ⟨X2, hX2, G1⟩ := mh_rows C2 R2 us2 ro2 vl2 mk2 en2 op2 sn2 lv2 nu2 tc2 ov2 al2 gK1
      have e : mh_ct X2 8 = mh_ct X 8 := mh_ct_congr 8 (fun k hk => mh_LK_kv hkv (hX k hk) (hX2 k hk))
      exact ⟨1, rfl, fun post n hp => pk_le 8 8 (fun _ => H1 _ (G1 _ (br_t (by rw [e]) hp))) (fun z => absurd z (by omega))⟩
  obtain ⟨z, rfl, H⟩ := main
  exact H post hp
end
end
section
/-! what a begin leaves; an end in any case -/
section
variable {C R : Int64} {us ro vl mk en op : Nat → Int32} {sn : Nat → Int64} {lv nu tc ov al : Nat → Int32} {c : Nat}
/-- transaction t has begun with number n -/
def mh_OPN (c : Nat) (C : Int64) (us ro vl mk en op : Nat → Int32) (sn : Nat → Int64) (lv nu tc ov : Nat → Int32) (t : Nat) (n : Int32) (C' R' : Int64) (us' mk' en' : Nat → Int32) (sn' : Nat → Int64) : Prop :=
  mh_I c C' R' us' ro mk' en' (upd op t 1) (vp_updL sn' t C') (upd lv t 0) (upd nu (t * 4) n) (upd tc (t * 4) 0) (upd ov t 0) ∧
  mh_kv us ro vl mk en (mh_st C) us' ro vl mk' en' (mh_st C') ∧
  mh_kv us ro vl mk en (mh_st C) us' ro vl mk' en' (mh_VS (mh_sn (vp_updL sn' t C')) (mh_nu (upd nu (t * 4) n)) t 0) ∧
  ∀ a j, mh_sl op lv a j → mh_kv us ro vl mk en (mh_VS (mh_sn sn) (mh_nu nu) a j) us' ro vl mk' en' (mh_VS (mh_sn (vp_updL sn' t C')) (mh_nu (upd nu (t * 4) n)) a j)
theorem mh_open_v (hI : mh_I c C R us ro mk en op sn lv nu tc ov) {t : Nat} (ht : t < 4) (ho : op t = 0) :
    ∃ (n : Int32) (C' R' : Int64) (us' mk' en' : Nat → Int32) (sn' : Nat → Int64) (al' : Nat → Int32), mh_OPN c C us ro vl mk en op sn lv nu tc ov t n C' R' us' mk' en' sn' ∧
      ∀ post : Int32 → St1 → Prop, post 0 (C', R', us', ro, vl, mk', en', upd op t 1, vp_updL sn' t C', upd lv t 0, upd nu (t * 4) n, upd tc (t * 4) 0, upd ov t 0, al') → wpX_open post (C, R, us, ro, vl, mk, en, op, sn, lv, nu, tc, ov, al) (nI t) := by
  obtain ⟨n, C', R', us', mk', en', sn', al', ⟨h1, ⟨e1, e2⟩, h3, h4, h5⟩, H⟩ := mh_open_c (vl := vl) (al := al) hI ht ho
  refine ⟨n, C', R', us', mk', en', sn', al', ⟨h1, fun v => ⟨e1 v, fun _ => ⟨rfl, rfl⟩⟩, fun v => ⟨?_, fun _ => ⟨rfl, rfl⟩⟩, fun a j hs v => ⟨?_, fun _ => ⟨rfl, rfl⟩⟩⟩, H⟩
  · rw [← e1 v]
    have key : ∀ m, m ≠ n → (mh_VS (mh_sn (vp_updL sn' t C')) (mh_nu (upd nu (t * 4) n)) t 0 m ↔ mh_st C' m) := by
      intro m hm
      unfold mh_VS mh_sn
      rw [pk_uLs]
      constructor
      · rintro (z | ⟨k, hk, z⟩)
        · exact z
        · have : k = 0 := by omega
          subst this
          have e : mh_nu (upd nu (t * 4) n) t 0 = n := pk_us
          exact absurd (z.symm.trans e) hm
      · exact Or.inl
    by_cases hv : mh_U us' v
    · obtain ⟨g1, g2⟩ := h5 v hv
      unfold mh_Q
      rw [key _ g1, key _ g2]
    · exact ⟨fun z => absurd z.1 hv, fun z => absurd z.1 hv⟩
  · rw [← e2 a j hs v]
    have hne : a ≠ t := fun z => hs.2.1 (by rw [z]; exact ho)
    have hj := mh_slK hI.2.2.1 hs
    have key : mh_VS (mh_sn (vp_updL sn' t C')) (mh_nu (upd nu (t * 4) n)) a j = mh_VS (mh_sn sn') (mh_nu nu) a j := by
      funext m
      apply propext
      have e : ∀ k, k ≤ j → mh_nu (upd nu (t * 4) n) a k = mh_nu nu a k := fun k hk => pk_un (by omega)
      unfold mh_VS mh_sn
      rw [pk_uLn hne]
      constructor
      · rintro (z | ⟨k, hk, z⟩)
        · exact Or.inl z
        · exact Or.inr ⟨k, hk, (e k hk).symm.trans z⟩
      · rintro (z | ⟨k, hk, z⟩)
        · exact Or.inl z
        · exact Or.inr ⟨k, hk, (e k hk).trans z⟩
    rw [key]
theorem mh_abort_any (hI : mh_I c C R us ro mk en op sn lv nu tc ov) {t : Nat} (ht : t < 4) :
    ∃ (z : Int32) (R' : Int64) (op' : Nat → Int32), (mh_I c C R' us ro mk en op' sn lv nu tc ov ∧ op' t = 0) ∧ ∀ post : Int32 → St1 → Prop, post z (C, R', us, ro, vl, mk, en, op', sn, lv, nu, tc, ov, al) → wpX_abort post (C, R, us, ro, vl, mk, en, op, sn, lv, nu, tc, ov, al) (nI t) := by
  by_cases ho : op t = 0
  · exact ⟨-2, R, op, ⟨hI, ho⟩, fun post hp => mh_abort_c ht ho hp⟩
  · obtain ⟨R', l, h1, _, H⟩ := mh_abort_o (vl := vl) (al := al) hI ht ho
    exact ⟨_, R', upd op t 0, ⟨h1, pk_us⟩, H⟩
theorem mh_cnt_congr {f g : Nat → Int32} : ∀ n, (∀ v, v < n → (f v = 0 ↔ g v = 0)) → mh_cnt f n = mh_cnt g n := by
  intro n
  induction n with
  | zero => intro _; rfl
  | succ n ih =>
    intro h
    unfold mh_cnt
    rw [ih (fun v hv => h v (by omega))]
    by_cases q : f n = 0
    · rw [if_pos q, if_pos ((h n (by omega)).mp q)]
    · rw [if_neg q, if_neg (fun z => q ((h n (by omega)).mpr z))]
end
end
section
/-! the law's last stages -/
section
variable {C R : Int64} {us ro vl mk en op : Nat → Int32} {sn : Nat → Int64} {lv nu tc ov al : Nat → Int32} {C3 R3 : Int64} {us3 ro3 vl3 mk3 en3 op3 : Nat → Int32} {sn3 : Nat → Int64} {lv3 nu3 tc3 ov3 al3 : Nat → Int32} {c c3 : Nat} {post : Int32 → Prop} {L : Nat} {xs : Nat → Int32} {kc ks : Nat}
theorem mh_L350 (hI : mh_I c C R us ro mk en op sn lv nu tc ov) (gI : mh_I c3 C3 R3 us3 ro3 mk3 en3 op3 sn3 lv3 nu3 tc3 ov3) {t : Nat} (ht : t < 4) (ho : op t = 0) (hop : ∀ a, a < 4 → (op3 a = 0 ↔ op a = 0)) (hkv : mh_kv us ro vl mk en (mh_st C) us3 ro3 vl3 mk3 en3 (mh_st C3)) (hp : post 1) :
    ∃ n, wL_law_350 post L xs (nI t) kc ks C R us ro vl mk en op sn lv nu tc ov al C3 R3 us3 ro3 vl3 mk3 en3 op3 sn3 lv3 nu3 tc3 ov3 al3 n 0 0 := by
  have main : ∃ z : Int32, z = 1 ∧ ∀ post : Int32 → Prop, post z → ∃ n, wL_law_350 post L xs (nI t) kc ks C R us ro vl mk en op sn lv nu tc ov al C3 R3 us3 ro3 vl3 mk3 en3 op3 sn3 lv3 nu3 tc3 ov3 al3 n 0 0 := by
    refine mh_lp0 (fun post n i (x : Nat) => wL_law_350 post L xs (nI t) kc ks C R us ro vl mk en op sn lv nu tc ov al C3 R3 us3 ro3 vl3 mk3 en3 op3 sn3 lv3 nu3 tc3 ov3 al3 n (nI x) (nI i)) 4 (fun i x => x = mh_cnt op i) (fun z => z = 1) 0 rfl ?_ ?_
    · intro i x hi hP
      by_cases q : op i = 0
      · refine Or.inr ⟨x, ?_, fun post n hw => pk_le 4 i (fun z => absurd z (by omega)) (fun _ => mh_count_c hi q (br_t (by decide) (nm_r (nI_1 i) hw)))⟩
        show x = mh_cnt op (i + 1)
        unfold mh_cnt
        rw [if_pos q, hP]
        rfl
      · obtain ⟨l, h4, hl, hn⟩ := hI.2.2.1 i hi q
        obtain ⟨X, hX, H⟩ := mh_count_o C R us ro vl mk en op sn lv nu tc ov al hI.2.1 hi q hl h4 hn
        have hle := mh_ct_le X 8
        refine Or.inr ⟨x + 1, ?_, fun post n hw => pk_le 4 i (fun z => absurd z (by omega)) (fun _ => H _ (br_f (nI_pos (by omega)) (nm_r (nI_1 x) (nm_r (nI_1 i) hw))))⟩
        show x + 1 = mh_cnt op (i + 1)
        unfold mh_cnt
        rw [if_neg q, hP]
    · intro x hP
      refine ⟨1, rfl, fun post n hp => pk_le 4 4 (fun _ => ?_) (fun z => absurd z (by omega))⟩
      obtain ⟨op5, ⟨gI5, ho5⟩, HC⟩ := mh_crash (vl := vl3) (al := al3) gI
      obtain ⟨n6, C6, R6, us6, mk6, en6, sn6, al6, ⟨i6, v6, w6, _⟩, H6⟩ := mh_open_v (vl := vl) (al := al) hI ht ho
      obtain ⟨n7, C7, R7, us7, mk7, en7, sn7, al7, ⟨i7, v7, w7, _⟩, H7⟩ := mh_open_v (vl := vl3) (al := al3) gI5 ht (ho5 t ht)
      have ec : nI (mh_cnt op3 4) = nI x := by rw [hP, mh_cnt_congr 4 hop]
      have kvC : mh_kv us6 ro vl mk6 en6 (mh_st C6) us7 ro3 vl3 mk7 en7 (mh_st C7) := mh_kv_tr (mh_kv_sy v6) (mh_kv_tr hkv v7)
      have kvV := mh_kv_tr (mh_kv_sy w6) (mh_kv_tr hkv w7)
      have kvM := mh_kv_tr (mh_kv_sy v6) w6
      have l0 : ∀ f : Nat → Int32, upd f t 0 t = nI 0 := fun f => pk_us
      have o6 : upd op t 1 t ≠ 0 := by rw [pk_us]; decide
      have o7 : upd op5 t 1 t ≠ 0 := by rw [pk_us]; decide
      have ag : mh_AG us6 ro vl mk6 en6 (upd op t 1) (vp_updL sn6 t C6) (upd lv t 0) (upd nu (t * 4) n6) (upd tc (t * 4) 0) us7 ro3 vl3 mk7 en7 (upd op5 t 1) (vp_updL sn7 t C7) (upd lv3 t 0) (upd nu3 (t * 4) n7) (upd tc3 (t * 4) 0) t := by
        refine Or.inr ⟨o6, o7, 0, 0, ⟨by decide, l0 lv⟩, ⟨by decide, l0 lv3⟩, kvV, mh_cb_congr 1 (fun k hk => ?_)⟩
        have : k = 0 := by omega
        subst this
        show upd tc (t * 4) 0 (t * 4) = upd tc3 (t * 4) 0 (t * 4)
        rw [pk_us, pk_us]
      obtain ⟨X6, hX6, R6'⟩ := mh_rows C6 R6 us6 ro vl mk6 en6 (upd op t 1) (vp_updL sn6 t C6) (upd lv t 0) (upd nu (t * 4) n6) (upd tc (t * 4) 0) (upd ov t 0) al6 i6.2.1
      obtain ⟨X7, hX7, R7'⟩ := mh_rows C7 R7 us7 ro3 vl3 mk7 en7 (upd op5 t 1) (vp_updL sn7 t C7) (upd lv3 t 0) (upd nu3 (t * 4) n7) (upd tc3 (t * 4) 0) (upd ov3 t 0) al7 i7.2.1
      obtain ⟨l', q4, ql, qn⟩ := i6.2.2.1 t ht o6
      have e : l' = 0 := (nI_eq (by omega) (by decide)).mp (ql.symm.trans (l0 lv))
      subst e
      obtain ⟨Y6, hY6, Q6⟩ := mh_count_o C6 R6 us6 ro vl mk6 en6 (upd op t 1) (vp_updL sn6 t C6) (upd lv t 0) (upd nu (t * 4) n6) (upd tc (t * 4) 0) (upd ov t 0) al6 i6.2.1 ht o6 ql q4 qn
      have e67 : mh_ct X7 8 = mh_ct X6 8 := mh_ct_congr 8 (fun k hk => mh_LK_kv kvC (hX6 k hk) (hX7 k hk))
      have e66 : mh_ct Y6 8 = mh_ct X6 8 := mh_ct_congr 8 (fun k hk => mh_LK_kv kvM (hX6 k hk) (hY6 k hk))
      exact HC _ (H6 _ (H7 _ (br_t ec (mh_seesL i6.2.1 i6.2.2.1 i7.2.1 i7.2.2.1 ht ag (br_f (by decide) (R6' _ (R7' _ (br_t (by rw [e67]) (Q6 _ (R6' _ (br_t (by rw [e66]) hp)))))))))))
  obtain ⟨z, rfl, H⟩ := main
  exact H post hp
/-- n after its put, against m -/
def mh_F3 (C : Int64) (us ro vl mk en op : Nat → Int32) (sn : Nat → Int64) (lv nu tc : Nat → Int32) (C3 : Int64) (us3 ro3 vl3 mk3 en3 op3 : Nat → Int32) (sn3 : Nat → Int64) (lv3 nu3 tc3 : Nat → Int32) (t : Nat) : Prop :=
  (op3 t ≠ 0 ∧ ∀ a, a ≠ t → op3 a = op a) ∧ (lv3 t = nI 0 ∧ ∀ a, a ≠ t → lv3 a = lv a) ∧ mh_kv us ro vl mk en (mh_st C) us3 ro3 vl3 mk3 en3 (mh_st C3) ∧
  (∀ a j, mh_sl op lv a j → mh_kv us ro vl mk en (mh_VS (mh_sn sn) (mh_nu nu) a j) us3 ro3 vl3 mk3 en3 (mh_VS (mh_sn sn3) (mh_nu nu3) a j)) ∧ ∀ a k, a ≠ t → k < 4 → tc3 (a * 4 + k) = tc (a * 4 + k)
theorem mh_L311 (hI : mh_I c C R us ro mk en op sn lv nu tc ov) (gI : mh_I c3 C3 R3 us3 ro3 mk3 en3 op3 sn3 lv3 nu3 tc3 ov3) {t : Nat} (ht : t < 4) (ho : op t = 0) (hF : mh_F3 C us ro vl mk en op sn lv nu tc C3 us3 ro3 vl3 mk3 en3 op3 sn3 lv3 nu3 tc3 t) {x6 : Int32}
    (hx : (x6 < 0 ∧ mh_so (mh_cb (fun k => tc3 (t * 4 + k)) 1) 8 = 0) ∨ (¬ x6 < 0 ∧ mh_so (mh_cb (fun k => tc3 (t * 4 + k)) 1) 8 = 1)) (hp : post 1) :
    wL_law_311 post L xs (nI t) x6 kc ks C R us ro vl mk en op sn lv nu tc ov al C3 R3 us3 ro3 vl3 mk3 en3 op3 sn3 lv3 nu3 tc3 ov3 al3 := by
  obtain ⟨⟨f1, f2⟩, ⟨f3, f4⟩, f5, f6, f7⟩ := hF
  obtain ⟨R4, l, i4, ⟨q4, ql⟩, H⟩ := mh_abort_o (vl := vl3) (al := al3) gI ht f1
  have e : l = 0 := (nI_eq (by omega) (by decide)).mp (ql.symm.trans f3)
  subst e
  have hop : ∀ a, a < 4 → (upd op3 t 0 a = 0 ↔ op a = 0) := by
    intro a _
    by_cases q : a = t
    · subst q
      rw [pk_us]
      exact ⟨fun _ => ho, fun _ => rfl⟩
    · rw [pk_un q, f2 a q]
  have ag : ∀ a, a < 4 → mh_AG us ro vl mk en op sn lv nu tc us3 ro3 vl3 mk3 en3 (upd op3 t 0) sn3 lv3 nu3 tc3 a := by
    intro a ha
    by_cases q : op a = 0
    · exact Or.inl ⟨q, (hop a ha).mpr q⟩
    · have hne : a ≠ t := fun z => q (by rw [z]; exact ho)
      obtain ⟨l, g4, gl, gn⟩ := hI.2.2.1 a ha q
      refine Or.inr ⟨q, fun z => q ((hop a ha).mp z), l, l, ⟨g4, gl⟩, ⟨g4, by rw [f4 a hne]; exact gl⟩, f6 a l ((mh_sl_iff ha q gl g4 l).mpr (Nat.le_refl l)), mh_cb_congr (l + 1) (fun k hk => ?_)⟩
      exact (f7 a k hne (by omega)).symm
  have done : ∃ n, wL_law_350 post L xs (nI t) kc ks C R us ro vl mk en op sn lv nu tc ov al C3 R4 us3 ro3 vl3 mk3 en3 (upd op3 t 0) sn3 lv3 nu3 tc3 ov3 al3 n 0 0 := mh_L350 hI i4 ht ho hop f5 hp
  have eq : wpL_equal (fun r_298 => (((r_298 = 0 → (post 0)) ∧ (¬ r_298 = 0 → (∃ fu350 : Nat, wL_law_350 post L xs (nI t) kc ks C R us ro vl mk en op sn lv nu tc ov al C3 R4 us3 ro3 vl3 mk3 en3 (upd op3 t 0) sn3 lv3 nu3 tc3 ov3 al3 fu350 0 0))))) (C, R, us, ro, vl, mk, en, op, sn, lv, nu, tc, ov, al, C3, R4, us3, ro3, vl3, mk3, en3, upd op3 t 0, sn3, lv3, nu3, tc3, ov3, al3) :=
    mh_equalL hI.2.1 hI.2.2.1 i4.2.1 i4.2.2.1 f5 ag (br_f (by decide) done)
  unfold wL_law_311
  refine H _ ?_
  rcases hx with ⟨x1, x2⟩ | ⟨x1, x2⟩
  · refine br_t x1 ?_
    unfold wL_law_331
    exact br_t x2 eq
  · refine br_f x1 ?_
    unfold wL_law_331
    exact br_t x2 eq
/-- what the put answered, and what it left -/
def mh_PA (us3 ro3 vl3 mk3 en3 : Nat → Int32) (sn3 : Nat → Int64) (nu3 tc3 : Nat → Int32) (t r : Nat) (x3 x6 : Int32) : Prop :=
  (x6 = -4 ∧ tc3 (t * 4) = 0) ∨ ((x6 = 0 ∨ x6 = 1) ∧ tc3 (t * 4) = 0 ||| ((1 : Int32) <<< (nI r &&& 31)) ∧ ∃ w, mh_Q (mh_U us3) mk3 en3 (mh_VS (mh_sn sn3) (mh_nu nu3) t 0) w ∧ ro3 w = nI r ∧ vl3 w = x3)
theorem mh_L282 (hI : mh_I c C R us ro mk en op sn lv nu tc ov) (gI : mh_I c3 C3 R3 us3 ro3 mk3 en3 op3 sn3 lv3 nu3 tc3 ov3) {t r : Nat} (ht : t < 4) (hr : r < 8) (ho : op t = 0) (hF : mh_F3 C us ro vl mk en op sn lv nu tc C3 us3 ro3 vl3 mk3 en3 op3 sn3 lv3 nu3 tc3 t) {x3 x6 z0 z1 : Int32}
    (hx : mh_PA us3 ro3 vl3 mk3 en3 sn3 nu3 tc3 t r x3 x6) (hz : z1 = z0) (hp : post 1) :
    wL_law_282 post L xs x3 (nI t) (nI r) x6 z0 z1 kc ks C R us ro vl mk en op sn lv nu tc ov al C3 R3 us3 ro3 vl3 mk3 en3 op3 sn3 lv3 nu3 tc3 ov3 al3 := by
  have ecb : mh_cb (fun k => tc3 (t * 4 + k)) 1 = 0 ||| tc3 (t * 4) := rfl
  unfold wL_law_282
  refine br_t hz ?_
  rcases hx with ⟨rfl, h⟩ | ⟨h1, h2, w, w1, w2, w3⟩
  · exact br_f (by decide) (br_t (by decide) (mh_L311 hI gI ht ho hF (Or.inl ⟨by decide, by rw [ecb, h]; exact mh_so_0⟩) hp))
  · have n5 : ¬ x6 = -5 := by rcases h1 with rfl | rfl <;> decide
    have n0 : ¬ x6 < 0 := by rcases h1 with rfl | rfl <;> decide
    obtain ⟨l', q4, ql, qn⟩ := gI.2.2.1 t ht hF.1.1
    have e : l' = 0 := (nI_eq (by omega) (by decide)).mp (ql.symm.trans hF.2.1.1)
    subst e
    obtain ⟨x, hx, _, H⟩ := mh_look_o C3 R3 us3 ro3 vl3 mk3 en3 op3 sn3 lv3 nu3 tc3 ov3 al3 gI.2.1 ht hF.1.1 ql q4 qn hr
    have ev : mh_gv vl3 x = x3 := by
      rcases hx with ⟨_, hno⟩ | ⟨v, hv, rfl, g1, g2, _⟩
      · exact absurd w2 (hno w w1)
      · have hs : mh_sl op3 lv3 t 0 := (mh_sl_iff ht hF.1.1 ql q4 0).mpr (Nat.le_refl 0)
        have : v = w := gI.1.2.2.2.2.2.2.2.2.2.2 t 0 hs v w g1 w1 (by rw [g2, w2])
        subst this
        unfold mh_gv
        rw [if_pos (nI_pos' (by omega)), nI_clamp (by omega), w3]
    exact br_f n5 (br_f n0 (H _ (br_t ev (mh_L311 hI gI ht ho hF (Or.inr ⟨n0, by rw [ecb, h2]; exact mh_so_1 r hr⟩) hp))))
theorem mh_L164 (hI : mh_I c C R us ro mk en op sn lv nu tc ov) (gI : mh_I c3 C3 R3 us3 ro3 mk3 en3 op3 sn3 lv3 nu3 tc3 ov3) {t r : Nat} (ht : t < 4) (hr : r < 8) (ho : op t = 0) (hF : mh_F3 C us ro vl mk en op sn lv nu tc C3 us3 ro3 vl3 mk3 en3 op3 sn3 lv3 nu3 tc3 t) {x3 x6 : Int32}
    (hx : mh_PA us3 ro3 vl3 mk3 en3 sn3 nu3 tc3 t r x3 x6) (hb : x6 = -4 ↔ ∃ a k, mh_sl op lv a k ∧ mh_tt tc a k (nI r)) (hp : post 1) :
    ∃ n, wL_law_164 post L xs x3 (nI t) (nI r) x6 kc ks n (-3) 0 C R us ro vl mk en op sn lv nu tc ov al C3 R3 us3 ro3 vl3 mk3 en3 op3 sn3 lv3 nu3 tc3 ov3 al3 := by
  have main : ∃ z : Int32, z = 1 ∧ ∀ post : Int32 → Prop, post z → ∃ n, wL_law_164 post L xs x3 (nI t) (nI r) x6 kc ks n (-3) 0 C R us ro vl mk en op sn lv nu tc ov al C3 R3 us3 ro3 vl3 mk3 en3 op3 sn3 lv3 nu3 tc3 ov3 al3 := by
    refine mh_lp0 (fun post n i (x : Int32) => wL_law_164 post L xs x3 (nI t) (nI r) x6 kc ks n x (nI i) C R us ro vl mk en op sn lv nu tc ov al C3 R3 us3 ro3 vl3 mk3 en3 op3 sn3 lv3 nu3 tc3 ov3 al3) 4
      (fun i x => (x = -4 ∧ ∃ a k, a < i ∧ mh_sl op lv a k ∧ mh_tt tc a k (nI r)) ∨ (x = -3 ∧ ¬ ∃ a k, a < i ∧ mh_sl op lv a k ∧ mh_tt tc a k (nI r))) (fun z => z = 1) (-3) (Or.inr ⟨rfl, fun ⟨a, k, h, _⟩ => absurd h (by omega)⟩) ?_ ?_
    · intro i x hi hP
      have keep : (¬ ∃ k, mh_sl op lv i k ∧ mh_tt tc i k (nI r)) → (x = -4 ∧ ∃ a k, a < i + 1 ∧ mh_sl op lv a k ∧ mh_tt tc a k (nI r)) ∨ (x = -3 ∧ ¬ ∃ a k, a < i + 1 ∧ mh_sl op lv a k ∧ mh_tt tc a k (nI r)) := by
        intro hno
        rcases hP with ⟨e, a, k, h1, h2⟩ | ⟨e, h⟩
        · exact Or.inl ⟨e, a, k, by omega, h2⟩
        · refine Or.inr ⟨e, fun ⟨a, k, h1, h2⟩ => ?_⟩
          by_cases q : a = i
          · subst q
            exact hno ⟨k, h2⟩
          · exact h ⟨a, k, by omega, h2⟩
      by_cases q : op i = 0
      · refine Or.inr ⟨x, keep (fun ⟨k, z, _⟩ => z.2.1 q), fun post n hw => pk_le 4 i (fun z => absurd z (by omega)) (fun _ => mh_changed_c hi q (br_t (by decide) ?_))⟩
        have hw' : wL_law_234 post L xs (wL_law_164 post L xs x3 (nI t) (nI r) x6 kc ks n) x3 (nI t) (nI r) x6 x (nI i) (-3) kc ks C R us ro vl mk en op sn lv nu tc ov al C3 R3 us3 ro3 vl3 mk3 en3 op3 sn3 lv3 nu3 tc3 ov3 al3 := br_t rfl (nm_r (nI_1 i) hw)
        unfold wL_law_199 wL_law_201 wL_law_232
        exact br_c (fun _ => hw') (fun _ => br_t (by decide) hw')
      · have hne : i ≠ t := fun z => q (by rw [z]; exact ho)
        have hnI : ¬ nI i = nI t := fun z => hne ((nI_eq (by omega) (by omega)).mp z)
        obtain ⟨l, h4, hl, hn⟩ := hI.2.2.1 i hi q
        have hs := mh_sl_iff hi q hl h4
        have nn : 0 ≤ mh_cb (fun k => tc (i * 4 + k)) (l + 1) := mh_cb_nn _ _ (fun k hk => (hn k (by omega)).2.2)
        have nn' : ¬ mh_cb (fun k => tc (i * 4 + k)) (l + 1) < 0 := Int32.not_lt.mpr nn
        have tail : ∀ (post : Int32 → Prop) (n : Nat) (y : Int32), wL_law_164 post L xs x3 (nI t) (nI r) x6 kc ks n y (nI (i + 1)) C R us ro vl mk en op sn lv nu tc ov al C3 R3 us3 ro3 vl3 mk3 en3 op3 sn3 lv3 nu3 tc3 ov3 al3 →
            wL_law_201 post L xs (wL_law_164 post L xs x3 (nI t) (nI r) x6 kc ks n) x3 (nI t) (nI r) x6 (nI i) (mh_cb (fun k => tc (i * 4 + k)) (l + 1)) y kc ks C R us ro vl mk en op sn lv nu tc ov al C3 R3 us3 ro3 vl3 mk3 en3 op3 sn3 lv3 nu3 tc3 ov3 al3 := by
          intro post n y hw
          unfold wL_law_201
          refine br_f hnI (br_f nn' ?_)
          rcases hx with ⟨rfl, _⟩ | ⟨h1, h2, _⟩
          · refine br_t (by decide) ?_
            unfold wL_law_232 wL_law_234
            exact br_t rfl (nm_r (nI_1 i) hw)
          · have n0 : ¬ x6 < 0 := by rcases h1 with rfl | rfl <;> decide
            obtain ⟨l', q4, ql, _⟩ := gI.2.2.1 t ht hF.1.1
            have hb3 : mh_bl op3 lv3 tc3 i (nI r) := by
              refine ⟨t, 0, (mh_sl_iff ht hF.1.1 ql q4 0).mpr (Nat.zero_le _), fun z => hne z.symm, ?_⟩
              unfold mh_tt
              rw [Nat.add_zero, h2, mh_tr_or, mh_tr_bit ⟨r, hr, rfl⟩]
              exact Or.inr rfl
            obtain ⟨z, hz, H⟩ := mh_add_b (vl := vl3) (al := al3) gI hi (by rw [hF.1.2 i hne]; exact q) hr hb3 1
            refine br_f n0 (H _ ?_)
            unfold wL_law_234
            rcases hz with rfl | rfl
            · exact br_t rfl (nm_r (nI_1 i) hw)
            · exact br_f (by decide) (br_t rfl (nm_r (nI_1 i) hw))
        by_cases hbit : mh_tb (mh_cb (fun k => tc (i * 4 + k)) (l + 1)) (nI r)
        · obtain ⟨k, hk1, hk2⟩ := (mh_cb_tr (fun k => tc (i * 4 + k)) (nI r) (l + 1)).mp ⟨⟨r, hr, rfl⟩, hbit⟩
          refine Or.inr ⟨-4, Or.inl ⟨rfl, i, k, by omega, (hs k).mpr (by omega), hk2⟩, fun post n hw => pk_le 4 i (fun z => absurd z (by omega)) (fun _ => mh_changed_o hi q hl h4 (br_f nn' (br_t hbit (tail post n _ hw))))⟩
        · refine Or.inr ⟨x, keep (fun ⟨k, z1, z2⟩ => hbit ?_), fun post n hw => pk_le 4 i (fun z => absurd z (by omega)) (fun _ => mh_changed_o hi q hl h4 (br_f nn' (br_f hbit ?_)))⟩
          · have := (hs k).mp z1
            exact ((mh_cb_tr (fun k => tc (i * 4 + k)) (nI r) (l + 1)).mpr ⟨k, by omega, z2⟩).2
          · unfold wL_law_199
            exact tail post n _ hw
    · intro x hP
      refine ⟨1, rfl, fun post n hp => pk_le 4 4 (fun _ => ?_) (fun z => absurd z (by omega))⟩
      have hs : (∃ a k, a < 4 ∧ mh_sl op lv a k ∧ mh_tt tc a k (nI r)) ↔ ∃ a k, mh_sl op lv a k ∧ mh_tt tc a k (nI r) :=
        ⟨fun ⟨a, k, _, h⟩ => ⟨a, k, h⟩, fun ⟨a, k, h⟩ => ⟨a, k, h.1.1, h⟩⟩
      rw [hs] at hP
      rcases hP with ⟨rfl, h⟩ | ⟨rfl, h⟩
      · refine br_t (hb.mpr h) ?_
        unfold wL_law_270
        exact br_t rfl (mh_L282 hI gI ht hr ho hF hx rfl hp)
      · refine br_f (fun z => h (hb.mp z)) ?_
        unfold wL_law_270
        exact br_f (by decide) (mh_L282 hI gI ht hr ho hF hx rfl hp)
  obtain ⟨z, rfl, H⟩ := main
  exact H post hp
end
end
section
/-! the law -/
theorem mh_I_0 : mh_I 0 0 0 (fun _ => 0) (fun _ => 0) (fun _ => 0) (fun _ => 0) (fun _ => 0) (fun _ => 0) (fun _ => 0) (fun _ => 0) (fun _ => 0) (fun _ => 0) := by
  have no : ∀ a k, ¬ mh_sl (fun _ => 0) (fun _ => 0) a k := fun a k z => z.2.1 rfl
  have nu : ∀ v, ¬ mh_U (fun _ => 0) v := fun v z => z.2 rfl
  refine ⟨⟨fun n z => absurd z (mh_st_z n), fun n => ⟨fun z => absurd z (mh_st_z n), fun ⟨a, k, z, _⟩ => absurd z (no a k)⟩, fun a k z => absurd z (no a k), fun a k _ _ z => absurd z (no a k), fun a z => absurd z (no a 0), fun a z => absurd z (no a 0), fun a k z => absurd z (no a k), fun a k _ z => absurd z (no a k),
    fun v z => absurd z (nu v), fun v _ z => absurd z.1 (nu v), fun a j z => absurd z (no a j)⟩, fun v z => absurd z (nu v), fun a _ z => absurd rfl z, ?_⟩
  decide
section
variable {C R : Int64} {us ro vl mk en op : Nat → Int32} {sn : Nat → Int64} {lv nu tc ov al : Nat → Int32} {c : Nat} {post : Int32 → Prop} {L : Nat} {xs : Nat → Int32} {kc ks : Nat}
/-- behind the script: abort, begin, put, and the checks -/
theorem mh_Lend (hI : mh_I c C R us ro mk en op sn lv nu tc ov) (hc : c < 96) {t r : Nat} (ht : t < 4) (hr : r < 8) (x3 : Int32) (hp : post 1) (hop : op t = 0) :
    wpX_open (fun _ u => match u with | (g1, g2, b1, b2, b3, b4, b5, b6, b7, b8, b9, b10, b11, b12) => wpX_put (fun r_212 u => match u with | (g1, g2, b1, b2, b3, b4, b5, b6, b7, b8, b9, b10, b11, b12) => ∃ fu164 : Nat, wL_law_164 post L xs x3 (nI t) (nI r) r_212 kc ks fu164 (-3) 0 C R us ro vl mk en op sn lv nu tc ov al g1 g2 b1 b2 b3 b4 b5 b6 b7 b8 b9 b10 b11 b12) (g1, g2, b1, b2, b3, b4, b5, b6, b7, b8, b9, b10, b11, b12) (nI t) (nI r) x3) (C, R, us, ro, vl, mk, en, op, sn, lv, nu, tc, ov, al) (nI t) := by
  obtain ⟨n2, C2, R2, us2, mk2, en2, sn2, al2, ⟨i2, v2, w2, y2⟩, HO⟩ := mh_open_v (vl := vl) (al := al) hI ht hop
  have o2 : upd op t 1 t ≠ 0 := by rw [pk_us]; decide
  have l2 : upd lv t 0 t = nI 0 := pk_us
  have sl2 : ∀ a k, a ≠ t → (mh_sl (upd op t 1) (upd lv t 0) a k ↔ mh_sl op lv a k) := by
    intro a k q
    unfold mh_sl
    rw [pk_un q, pk_un q]
  have tc2 : ∀ a k, a ≠ t → k < 4 → upd tc (t * 4) 0 (a * 4 + k) = tc (a * 4 + k) := fun a k q hk => pk_un (by omega)
  have one : ∀ a k, mh_sl op lv a k → a ≠ t := fun a k z q => z.2.1 (by rw [q]; exact hop)
  have hbl : mh_bl (upd op t 1) (upd lv t 0) (upd tc (t * 4) 0) t (nI r) ↔ ∃ a k, mh_sl op lv a k ∧ mh_tt tc a k (nI r) := by
    constructor
    · rintro ⟨a, k, h1, h2, h3⟩
      have hk := mh_slK i2.2.2.1 h1
      unfold mh_tt at h3
      rw [tc2 a k h2 hk] at h3
      exact ⟨a, k, (sl2 a k h2).mp h1, h3⟩
    · rintro ⟨a, k, h1, h3⟩
      have h2 := one a k h1
      refine ⟨a, k, (sl2 a k h2).mpr h1, h2, ?_⟩
      have hk := mh_slK hI.2.2.1 h1
      unfold mh_tt
      rw [tc2 a k h2 hk]
      exact h3
  have hov : ¬ mh_ov (upd ov t 0) t (nI r) := by
    unfold mh_ov
    rw [pk_us]
    exact mh_tr_0 _
  refine HO _ ?_
  by_cases hb : mh_bl (upd op t 1) (upd lv t 0) (upd tc (t * 4) 0) t (nI r)
  · refine mh_put_b i2 ht o2 hr hb x3 ?_
    exact mh_L164 hI i2 ht hr hop ⟨⟨o2, fun a q => pk_un q⟩, ⟨l2, fun a q => pk_un q⟩, v2, y2, tc2⟩ (Or.inl ⟨rfl, pk_us⟩) ⟨fun _ => hbl.mp hb, fun _ => rfl⟩ hp
  · obtain ⟨z, us3, ro3, vl3, mk3, en3, ⟨hz, i3, v3, y3, w3⟩, HP⟩ := mh_put_w (vl := vl) (al := al2) i2 hc ht o2 l2 (by decide) hr hb hov x3
    refine HP _ ?_
    refine mh_L164 hI i3 ht hr hop ⟨⟨o2, fun a q => pk_un q⟩, ⟨l2, fun a q => pk_un q⟩, mh_kv_tr v2 v3, fun a j hs => mh_kv_tr (y2 a j hs) (y3 a j ((sl2 a j (one a j hs)).mpr hs) (fun q => one a j hs q.1)), fun a k q hk => ?_⟩ (Or.inr ⟨hz, ?_, w3⟩) ⟨fun e => ?_, fun e => absurd (hbl.mpr e) hb⟩ hp
    · rw [← tc2 a k q hk]
      exact pk_un (by omega)
    · show upd (upd tc (t * 4) 0) (t * 4) (upd tc (t * 4) 0 (t * 4) ||| ((1 : Int32) <<< (nI r &&& 31))) (t * 4) = _
      rw [pk_us, pk_us]
    · rcases hz with rfl | rfl
      · exact absurd e (by decide)
      · exact absurd e (by decide)
end
theorem mh_L32 {post : Int32 → Prop} {L : Nat} {xs : Nat → Int32} {kc ks : Nat} (hL : L ≤ 260) (x3 : Int32) (hp : post 1) :
    ∃ n, wL_law_32 post L xs x3 kc ks n 1 0 0 (fun _ => 0) (fun _ => 0) (fun _ => 0) (fun _ => 0) (fun _ => 0) (fun _ => 0) (fun _ => 0) (fun _ => 0) (fun _ => 0) (fun _ => 0) (fun _ => 0) (fun _ => 0) 0 0 (fun _ => 0) (fun _ => 0) (fun _ => 0) (fun _ => 0) (fun _ => 0) (fun _ => 0) (fun _ => 0) (fun _ => 0) (fun _ => 0) (fun _ => 0) (fun _ => 0) (fun _ => 0) := by
  have main := mh_lp0 (fun (post : Int32 → Prop) n i (s : St1) => wL_law_32 post L xs x3 kc ks n (nI (1 + 4 * i)) s.1 s.2.1 s.2.2.1 s.2.2.2.1 s.2.2.2.2.1 s.2.2.2.2.2.1 s.2.2.2.2.2.2.1 s.2.2.2.2.2.2.2.1 s.2.2.2.2.2.2.2.2.1 s.2.2.2.2.2.2.2.2.2.1 s.2.2.2.2.2.2.2.2.2.2.1 s.2.2.2.2.2.2.2.2.2.2.2.1 s.2.2.2.2.2.2.2.2.2.2.2.2.1 s.2.2.2.2.2.2.2.2.2.2.2.2.2 s.1 s.2.1 s.2.2.1 s.2.2.2.1 s.2.2.2.2.1 s.2.2.2.2.2.1 s.2.2.2.2.2.2.1 s.2.2.2.2.2.2.2.1 s.2.2.2.2.2.2.2.2.1 s.2.2.2.2.2.2.2.2.2.1 s.2.2.2.2.2.2.2.2.2.2.1 s.2.2.2.2.2.2.2.2.2.2.2.1 s.2.2.2.2.2.2.2.2.2.2.2.2.1 s.2.2.2.2.2.2.2.2.2.2.2.2.2)
    ((L - 1) / 4) (fun i s => mh_IS i s) (fun z => z = 1) (0, 0, (fun _ => 0), (fun _ => 0), (fun _ => 0), (fun _ => 0), (fun _ => 0), (fun _ => 0), (fun _ => 0), (fun _ => 0), (fun _ => 0), (fun _ => 0), (fun _ => 0), (fun _ => 0)) mh_I_0 (by
    rintro i ⟨C, R, us, ro, vl, mk, en, op, sn, lv, nu, tc, ov, al⟩ hi hP
    obtain ⟨z, ⟨f1, f2, b1, b2, b3, b4, b5, b6, b7, b8, b9, b10, b11, b12⟩, hI', H⟩ := mh_turn hP (by omega) (xs (1 + 4 * i)) (xs (1 + 4 * i + 1)) (xs (1 + 4 * i + 2)) (xs (1 + 4 * i + 3))
    refine Or.inr ⟨_, hI', fun post n hw => ?_⟩
    have e1 : nI (1 + 4 * i) + 1 = nI (1 + 4 * i + 1) := nI_add _ 1
    have e2 : nI (1 + 4 * i) + 2 = nI (1 + 4 * i + 2) := nI_add _ 2
    have e3 : nI (1 + 4 * i) + 3 = nI (1 + 4 * i + 3) := nI_add _ 3
    have e4 : nI (1 + 4 * i) + 4 = nI (1 + 4 * (i + 1)) := nI_add _ 4
    have k0 := pk_in (x := nI (1 + 4 * i)) (1 + 4 * i) L (by omega) rfl (by omega)
    have k1 := pk_in (x := nI (1 + 4 * i + 1)) (1 + 4 * i + 1) L (by omega) rfl (by omega)
    have k2 := pk_in (x := nI (1 + 4 * i + 2)) (1 + 4 * i + 2) L (by omega) rfl (by omega)
    have k3 := pk_in (x := nI (1 + 4 * i + 3)) (1 + 4 * i + 3) L (by omega) rfl (by omega)
    refine pk_le L (1 + 4 * i + 3) (fun z => absurd z (by omega)) (fun _ => ?_) rfl e3 (by omega) (by omega)
    rw [e1, e2, e3, nI_clamp (show 1 + 4 * i < 2 ^ 31 by omega), nI_clamp (show 1 + 4 * i + 1 < 2 ^ 31 by omega), nI_clamp (show 1 + 4 * i + 2 < 2 ^ 31 by omega), nI_clamp (show 1 + 4 * i + 3 < 2 ^ 31 by omega)]
    exact ⟨k0, k1, k2, k3, H _ ⟨k0, k1, k2, k3, H _ (br_t rfl (nm_r e4 hw))⟩⟩) (by
    rintro ⟨C, R, us, ro, vl, mk, en, op, sn, lv, nu, tc, ov, al⟩ hP
    have hI : mh_I ((L - 1) / 4) C R us ro mk en op sn lv nu tc ov := hP
    refine ⟨1, rfl, fun post n hp => ?_⟩
    obtain ⟨t, ht, et⟩ := pk_andE x3 (m := 3) 2 (by decide)
    obtain ⟨r, hr, er⟩ := pk_andE (x3 >>> ((2 : Int32) &&& 31)) (m := 7) 3 (by decide)
    obtain ⟨z, R1, op1, ⟨i1, o1⟩, HA⟩ := mh_abort_any (vl := vl) (al := al) hI (t := t) (by omega)
    have e3 : nI (1 + 4 * ((L - 1) / 4)) + 3 = nI (1 + 4 * ((L - 1) / 4) + 3) := nI_add _ 3
    refine pk_le L (1 + 4 * ((L - 1) / 4) + 3) (fun _ => nm_r et (nm_r er ?_)) (fun z => absurd z (by omega)) rfl e3 (by omega) (by omega)
    exact HA _ (HA _ (mh_Lend i1 (by omega) (by omega) (by omega) x3 hp o1)))
  obtain ⟨z, rfl, H⟩ := main
  exact H post hp
theorem i_vc (xs : Nat → Int32) (L : Nat) (hL : L ≤ 260) : wpL_law (fun r => r = 1) L xs := by
  have hp : (fun r : Int32 => r = 1) 1 := rfl
  have ini : ∀ post : St1 → Prop, post (0, 0, (fun _ => 0), (fun _ => 0), (fun _ => 0), (fun _ => 0), (fun _ => 0), (fun _ => 0), (fun _ => 0), (fun _ => 0), (fun _ => 0), (fun _ => 0), (fun _ => 0), (fun _ => 0)) → wpX_init post 12 544 (0, 0) := by
    intro post h
    unfold wpX_init
    exact ⟨by decide, by decide, by decide, by decide, by decide, by decide, by decide, by decide, by decide, by decide, by decide, by decide, by decide, by decide, by decide, by decide, by decide, by decide, by decide, by decide, by decide, by decide, by decide, by decide, h⟩
  refine ⟨12, 544, by decide, by decide, ini _ ⟨by decide, by decide, 12, 544, by decide, by decide, ini _ ?_⟩⟩
  exact pk_le L 0 (fun _ => mh_L32 hL 0 hp) (fun h => ⟨pk_in 0 L h rfl (by omega), nm_e (mh_L32 hL _ hp)⟩) rfl rfl (by omega) (by omega)
end
