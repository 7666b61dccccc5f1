section
/-! ===== Int64 by its bits ===== -/
def zb_t (x : Int64) (i : Nat) : Bool := x.toBitVec.getLsbD i
theorem zb_ext {x y : Int64} (h : ∀ i, i < 64 → zb_t x i = zb_t y i) : x = y :=
  Int64.toBitVec_inj.mp (BitVec.eq_of_getLsbD_eq (fun i hi => h i hi))
theorem zb_or (x y : Int64) (i : Nat) : zb_t (x ||| y) i = (zb_t x i || zb_t y i) := by
  unfold zb_t; rw [Int64.toBitVec_or, BitVec.getLsbD_or]
theorem zb_and (x y : Int64) (i : Nat) : zb_t (x &&& y) i = (zb_t x i && zb_t y i) := by
  unfold zb_t; rw [Int64.toBitVec_and, BitVec.getLsbD_and]
theorem zb_big {x : Int64} {i : Nat} (h : 64 ≤ i) : zb_t x i = false := BitVec.getLsbD_of_ge _ _ h
theorem zb_lt {x : Int64} {i : Nat} (h : zb_t x i = true) : i < 64 := by
  rcases Nat.lt_or_ge i 64 with g | g
  · exact g
  · rw [zb_big g] at h; exact absurd h (by decide)
theorem zb_0 (i : Nat) : zb_t 0 i = false := BitVec.getLsbD_zero
theorem zb_1 (i : Nat) : zb_t 1 i = decide (i = 0) := by
  rcases Nat.lt_or_ge i 64 with h | h
  · exact (by decide +kernel : ∀ i, i < 64 → zb_t 1 i = decide (i = 0)) i h
  · rw [zb_big h, decide_eq_false (by omega)]
theorem zb_2 (i : Nat) : zb_t 2 i = decide (i = 1) := by
  rcases Nat.lt_or_ge i 64 with h | h
  · exact (by decide +kernel : ∀ i, i < 64 → zb_t 2 i = decide (i = 1)) i h
  · rw [zb_big h, decide_eq_false (by omega)]
theorem zb_z {x : Int64} : x = 0 ↔ ∀ i, zb_t x i = false :=
  ⟨fun h i => by rw [h, zb_0], fun h => zb_ext (fun i _ => by rw [h i, zb_0])⟩
theorem zb_nz {x : Int64} : ¬ x = 0 ↔ ∃ i, zb_t x i = true := by
  constructor
  · intro h
    apply Classical.byContradiction
    intro g
    apply h
    rw [zb_z]
    intro i
    cases e : zb_t x i with
    | false => rfl
    | true => exact absurd ⟨i, e⟩ g
  · rintro ⟨i, e⟩ h
    rw [h, zb_0] at e
    exact absurd e (by decide)
theorem zb_anz {x y : Int64} : ¬ (x &&& y) = 0 ↔ ∃ i, zb_t x i = true ∧ zb_t y i = true := by
  rw [zb_nz]
  constructor
  · rintro ⟨i, h⟩
    rw [zb_and, Bool.and_eq_true] at h
    exact ⟨i, h⟩
  · rintro ⟨i, h⟩
    exact ⟨i, by rw [zb_and, Bool.and_eq_true]; exact h⟩
theorem zb_cs : ∀ n, n < 64 → (((nI n).toInt64 &&& 63).toBitVec.smod 64).toNat = n := by decide +kernel
theorem zb_cu : ∀ n, n < 64 → ((nI n).toInt64.toUInt64 &&& Int64.toUInt64 63) = UInt64.ofNat n := by decide +kernel
theorem zb_shl (n : Nat) (hn : n < 64) (x : Int64) (i : Nat) :
    zb_t (x <<< ((nI n).toInt64 &&& 63)) i = (decide (n ≤ i) && decide (i < 64) && zb_t x (i - n)) := by
  unfold zb_t
  rw [Int64.toBitVec_shiftLeft]
  show (x.toBitVec <<< (((nI n).toInt64 &&& 63).toBitVec.smod 64).toNat).getLsbD i = _
  rw [zb_cs n hn, BitVec.getLsbD_shiftLeft]
  rcases Nat.lt_or_ge i n with h | h
  · simp [h, Nat.not_le.mpr h]
  · simp [h, Nat.not_lt.mpr h]
theorem zb_shT {n : Nat} (hn : n < 64) {x : Int64} {i : Nat} :
    zb_t (x <<< ((nI n).toInt64 &&& 63)) i = true ↔ n ≤ i ∧ i < 64 ∧ zb_t x (i - n) = true := by
  rw [zb_shl n hn, Bool.and_eq_true, Bool.and_eq_true, decide_eq_true_iff, decide_eq_true_iff, and_assoc]
theorem zb_sh0 {x : Int64} {i : Nat} : zb_t (x <<< ((nI 0).toInt64 &&& 63)) i = true ↔ zb_t x i = true := by
  rw [zb_shT (n := 0) (by decide), Nat.sub_zero]
  exact ⟨fun g => g.2.2, fun g => ⟨Nat.zero_le _, zb_lt g, g⟩⟩
theorem zb_orT {x y : Int64} {i : Nat} : zb_t (x ||| y) i = true ↔ zb_t x i = true ∨ zb_t y i = true := by
  rw [zb_or, Bool.or_eq_true]
theorem zb_one {n : Nat} (hn : n < 64) {i : Nat} : zb_t ((1 : Int64) <<< ((nI n).toInt64 &&& 63)) i = true ↔ i = n := by
  rw [zb_shT hn, zb_1, decide_eq_true_iff]
  omega
theorem zb_low (y : Int64) : (y &&& 1) = 1 ↔ zb_t y 0 = true := by
  constructor
  · intro h
    have t : zb_t (y &&& 1) 0 = zb_t 1 0 := by rw [h]
    rw [zb_and, zb_1] at t
    simpa using t
  · intro h
    apply zb_ext
    intro i _
    rw [zb_and, zb_1]
    by_cases e : i = 0
    · subst e; simp [h]
    · simp [e]
theorem zb_tst {n : Nat} (hn : n < 64) (x : Int64) :
    ((x.toUInt64 >>> ((nI n).toInt64.toUInt64 &&& Int64.toUInt64 63)).toInt64 &&& 1) = 1 ↔ zb_t x n = true := by
  rw [zb_low, zb_cu n hn]
  have hs : (UInt64.ofNat n).toNat = n := by
    show (BitVec.ofNat 64 n).toNat = n
    rw [BitVec.toNat_ofNat, Nat.mod_eq_of_lt (by omega)]
  have e : (x.toUInt64 >>> UInt64.ofNat n).toInt64.toBitVec = x.toBitVec >>> n := by
    apply BitVec.eq_of_toNat_eq
    show (x.toUInt64 >>> UInt64.ofNat n).toNat = _
    rw [UInt64.toNat_shiftRight, hs, Nat.mod_eq_of_lt hn, BitVec.toNat_ushiftRight]
    rfl
  unfold zb_t
  rw [e, BitVec.getLsbD_ushiftRight, Nat.add_zero]
/-! how many bits stand below place m -/
def zb_n (x : Int64) : Nat → Nat
  | 0 => 0
  | m + 1 => zb_n x m + (if zb_t x m = true then 1 else 0)
theorem zb_nle (x : Int64) : ∀ m, zb_n x m ≤ m
  | 0 => Nat.le_refl 0
  | m + 1 => by
    have := zb_nle x m
    unfold zb_n
    split <;> omega
theorem zb_nmono {x y : Int64} (h : ∀ i, zb_t x i = true → zb_t y i = true) : ∀ m, zb_n x m ≤ zb_n y m
  | 0 => Nat.le_refl 0
  | m + 1 => by
    have := zb_nmono h m
    unfold zb_n
    by_cases g : zb_t x m = true
    · rw [if_pos g, if_pos (h m g)]; omega
    · rw [if_neg g]; omega
theorem zb_nlt {x y : Int64} (h : ∀ i, zb_t x i = true → zb_t y i = true) {i : Nat} (hx : ¬ zb_t x i = true) (hy : zb_t y i = true) : ∀ m, i < m → zb_n x m < zb_n y m
  | 0, g => absurd g (by omega)
  | m + 1, g => by
    unfold zb_n
    by_cases e : i = m
    · subst e
      have := zb_nmono h i
      rw [if_neg hx, if_pos hy]
      omega
    · have := zb_nlt h hx hy m (by omega)
      by_cases g : zb_t x m = true
      · rw [if_pos g, if_pos (h m g)]; omega
      · rw [if_neg g]; omega
/-! indices -/
theorem zn_ix (s i : Nat) : nI s * 4 + nI i = nI (s * 4 + i) := by
  rw [show (4 : Int32) = nI 4 from rfl, pk_mul, nI_add]
theorem zn_ix2 (x s i : Nat) : (nI x + nI s) * 4 + nI i = nI ((x + s) * 4 + i) := by
  rw [nI_add, zn_ix]
theorem zn_lin {s nx t ny : Nat} (hs : s < nx) (ht : t < ny) : s * ny + t < nx * ny := by
  have h : (s + 1) * ny ≤ nx * ny := Nat.mul_le_mul_right _ hs
  rw [Nat.succ_mul] at h
  omega
end
section
/-! ===== the process: states below n, moves mv, final states fi ===== -/
def zp_rk (n : Nat) (mv : Nat → Int64) (fi : Int64) : Nat → Nat → Prop
  | 0, i => zb_t fi i = true
  | d + 1, i => zp_rk n mv fi d i ∨ (i < n ∧ ∃ k, k < 4 ∧ ∃ t, zb_t (mv (i * 4 + k)) t = true ∧ zp_rk n mv fi d t)
def zp_ok (n : Nat) (mv : Nat → Int64) (fi : Int64) : Prop :=
  (∀ s k t, s < n → k < 4 → zb_t (mv (s * 4 + k)) t = true → t < n) ∧
  ∃ μ : Nat → Nat, ∀ s, s < n → zb_t fi s = true ∨ ∃ k, k < 4 ∧ ∃ t, zb_t (mv (s * 4 + k)) t = true ∧ μ t < μ s
def zp_hit (n : Nat) (mv : Nat → Int64) (fi S : Int64) (d : Nat) : Prop := ∃ i, zb_t S i = true ∧ zp_rk n mv fi d i
def zp_ds (n : Nat) (mv : Nat → Int64) (fi S : Int64) (d : Nat) : Prop := zp_hit n mv fi S d ∧ ∀ c, c < d → ¬ zp_hit n mv fi S c
def zp_st (n : Nat) (mv : Nat → Int64) (S : Int64) (k : Nat) (r : Int64) : Prop :=
  ∀ t, zb_t r t = true ↔ ∃ s, s < n ∧ zb_t S s = true ∧ zb_t (mv (s * 4 + k)) t = true
def zp_bf (n : Nat) (mv : Nat → Int64) (S r : Int64) : Prop :=
  ∀ i, zb_t r i = true ↔ zb_t S i = true ∨ (i < n ∧ ∃ k, k < 4 ∧ ∃ t, zb_t (mv (i * 4 + k)) t = true ∧ zb_t S t = true)
section
variable {n : Nat} {mv : Nat → Int64} {fi : Int64}
theorem zp_some (h : zp_ok n mv fi) : ∀ s, s < n → ∃ d, zp_rk n mv fi d s := by
  obtain ⟨h1, μ, h2⟩ := h
  have main : ∀ m s, μ s < m → s < n → ∃ d, zp_rk n mv fi d s := by
    intro m
    induction m with
    | zero => intro s hm; omega
    | succ m ih =>
      intro s hm hs
      rcases h2 s hs with g | ⟨k, hk, t, ht, hμ⟩
      · exact ⟨0, g⟩
      · obtain ⟨d, hd⟩ := ih t (by omega) (h1 s k t hs hk ht)
        exact ⟨d + 1, Or.inr ⟨hs, k, hk, t, ht, hd⟩⟩
  exact fun s hs => main (μ s + 1) s (by omega) hs
theorem zp_up (i : Nat) (h : zp_rk n mv fi 0 i) : ∀ d, zp_rk n mv fi d i
  | 0 => h
  | d + 1 => Or.inl (zp_up i h d)
theorem zp_stab {d : Nat} (h : ∀ i, zp_rk n mv fi (d + 1) i → zp_rk n mv fi d i) : ∀ c i, zp_rk n mv fi c i → zp_rk n mv fi d i := by
  intro c
  induction c with
  | zero => exact fun i g => zp_up i g d
  | succ c ih =>
    intro i g
    rcases g with g | ⟨hi, k, hk, t, ht, g⟩
    · exact ih i g
    · exact h i (Or.inr ⟨hi, k, hk, t, ht, ih t g⟩)
theorem zp_dsU {S : Int64} {a b : Nat} (ha : zp_ds n mv fi S a) (hb : zp_ds n mv fi S b) : a = b := by
  rcases Nat.lt_trichotomy a b with h | h | h
  · exact absurd ha.1 (hb.2 a h)
  · exact h
  · exact absurd hb.1 (ha.2 b h)
theorem zp_dsN {S : Int64} {a : Nat} (ha : zp_ds n mv fi S a) : ¬ S = 0 := by
  obtain ⟨⟨i, hi, _⟩, _⟩ := ha
  exact zb_nz.mpr ⟨i, hi⟩
theorem zp_stU {S : Int64} {k : Nat} {r r' : Int64} (h : zp_st n mv S k r) (h' : zp_st n mv S k r') : r = r' := by
  apply zb_ext
  intro i _
  have e : zb_t r i = true ↔ zb_t r' i = true := (h i).trans (h' i).symm
  cases c : zb_t r i with
  | true => exact (e.mp c).symm
  | false =>
    cases c' : zb_t r' i with
    | false => rfl
    | true => rw [e.mpr c'] at c; exact absurd c (by decide)
theorem zp_stL (ok : zp_ok n mv fi) {S : Int64} {k : Nat} {r : Int64} (hk : k < 4) (h : zp_st n mv S k r) : ∀ t, zb_t r t = true → t < n := by
  intro t ht
  obtain ⟨s, hs, _, hm⟩ := (h t).mp ht
  exact ok.1 s k t hs hk hm
theorem zp_next {S : Int64} {d : Nat} (h : zp_ds n mv fi S (d + 1)) : ∃ k, k < 4 ∧ ∀ r, zp_st n mv S k r → zp_ds n mv fi r d := by
  obtain ⟨⟨i, hi, g⟩, hm⟩ := h
  rcases g with g | ⟨hn, k, hk, t, ht, g⟩
  · exact absurd ⟨i, hi, g⟩ (hm d (by omega))
  · refine ⟨k, hk, fun r hr => ⟨⟨t, (hr t).mpr ⟨i, hn, hi, ht⟩, g⟩, ?_⟩⟩
    rintro c hc ⟨t', ht', g'⟩
    obtain ⟨s, hs, hS, hmv⟩ := (hr t').mp ht'
    exact hm (c + 1) (by omega) ⟨s, hS, Or.inr ⟨hs, k, hk, t', hmv, g'⟩⟩
end
/-! ===== a machine: n states, rows R s k of edges, ends F s ===== -/
def zm_g (n : Nat) (R : Nat → Nat → Int64) (F : Nat → Int32) : Prop :=
  (∀ s k t, s < n → k < 4 → zb_t (R s k) t = true → 1 ≤ t ∧ t < n) ∧
  ∃ μ : Nat → Nat, ∀ s, s < n → ¬ F s = 0 ∨ ∃ k, k < 4 ∧ ∃ t, zb_t (R s k) t = true ∧ μ t < μ s
theorem zm_mn {n : Nat} {R R' : Nat → Nat → Int64} {F F' : Nat → Int32} (h : zm_g n R F)
    (h1 : ∀ s k t, s < n → k < 4 → zb_t (R s k) t = true → zb_t (R' s k) t = true)
    (h2 : ∀ s k t, s < n → k < 4 → zb_t (R' s k) t = true → 1 ≤ t ∧ t < n)
    (h3 : ∀ s, s < n → ¬ F s = 0 → ¬ F' s = 0) : zm_g n R' F' := by
  obtain ⟨_, μ, hμ⟩ := h
  refine ⟨h2, μ, fun s hs => ?_⟩
  rcases hμ s hs with g | ⟨k, hk, t, ht, g⟩
  · exact Or.inl (h3 s hs g)
  · exact Or.inr ⟨k, hk, t, h1 s k t hs hk ht, g⟩
theorem zm_cg {n : Nat} {R R' : Nat → Nat → Int64} {F F' : Nat → Int32} (h : zm_g n R F)
    (h1 : ∀ s k, s < n → k < 4 → R' s k = R s k)
    (h3 : ∀ s, s < n → ¬ F s = 0 → ¬ F' s = 0) : zm_g n R' F' :=
  zm_mn h (fun s k t hs hk g => by rw [h1 s k hs hk]; exact g) (fun s k t hs hk g => h.1 s k t hs hk (by rw [← h1 s k hs hk]; exact g)) h3
theorem zm_seq {up ny : Nat} {A B C : Nat → Nat → Int64} {P Q D : Nat → Int32} (hA : zm_g (up + 1) A P) (hB : zm_g ny B Q) (h1 : 1 ≤ ny) (h2 : up + ny ≤ 64)
    (hC1 : ∀ s k t, s < up + 1 → k < 4 → (zb_t (C s k) t = true ↔ zb_t (A s k) t = true ∨ (¬ P s = 0 ∧ up ≤ t ∧ t < 64 ∧ zb_t (B 0 k) (t - up) = true)))
    (hC2 : ∀ s k t, 1 ≤ s → s < ny → k < 4 → (zb_t (C (up + s) k) t = true ↔ up ≤ t ∧ t < 64 ∧ zb_t (B s k) (t - up) = true))
    (hD1 : ∀ s, s < up + 1 → ¬ P s = 0 → ¬ Q 0 = 0 → ¬ D s = 0)
    (hD2 : ∀ s, 1 ≤ s → s < ny → ¬ Q s = 0 → ¬ D (up + s) = 0) : zm_g (up + ny) C D := by
  obtain ⟨rA, μ, mA⟩ := hA
  obtain ⟨rB, ν, mB⟩ := hB
  refine ⟨fun s k t hs hk g => ?_, fun q => if q ≤ up then μ q + ν 0 else ν (q - up), fun s hs => ?_⟩
  · rcases Nat.lt_or_ge s (up + 1) with c | c
    · rcases (hC1 s k t c hk).mp g with g | ⟨_, _, _, g⟩
      · have := rA s k t c hk g
        omega
      · have := rB 0 k (t - up) (by omega) hk g
        omega
    · have e : s = up + (s - up) := by omega
      rw [e] at g
      obtain ⟨_, _, g⟩ := (hC2 (s - up) k t (by omega) (by omega) hk).mp g
      have := rB (s - up) k (t - up) (by omega) hk g
      omega
  · dsimp only
    rcases Nat.lt_or_ge s (up + 1) with c | c
    · rw [if_pos (show s ≤ up by omega)]
      rcases mA s c with p | ⟨k, hk, t, ht, g⟩
      · rcases mB 0 (by omega) with q | ⟨k, hk, t, ht, g⟩
        · exact Or.inl (hD1 s c p q)
        · have r := rB 0 k t (by omega) hk ht
          refine Or.inr ⟨k, hk, up + t, (hC1 s k _ c hk).mpr (Or.inr ⟨p, by omega, by omega, ?_⟩), ?_⟩
          · rw [show up + t - up = t by omega]; exact ht
          · rw [if_neg (by omega), show up + t - up = t by omega]; omega
      · have r := rA s k t c hk ht
        refine Or.inr ⟨k, hk, t, (hC1 s k t c hk).mpr (Or.inl ht), ?_⟩
        rw [if_pos (by omega)]; omega
    · have e : s = up + (s - up) := by omega
      rw [if_neg (by omega)]
      rcases mB (s - up) (by omega) with q | ⟨k, hk, t, ht, g⟩
      · left; rw [e]; exact hD2 (s - up) (by omega) (by omega) q
      · have r := rB (s - up) k t (by omega) hk ht
        refine Or.inr ⟨k, hk, up + t, ?_, ?_⟩
        · rw [e]
          refine (hC2 (s - up) k _ (by omega) (by omega) hk).mpr ⟨by omega, by omega, ?_⟩
          rw [show up + t - up = t by omega]; exact ht
        · rw [if_neg (by omega), show up + t - up = t by omega]; exact g
theorem zm_cho {up ny : Nat} {A B C : Nat → Nat → Int64} {P Q D : Nat → Int32} (hA : zm_g (up + 1) A P) (hB : zm_g ny B Q) (h1 : 1 ≤ ny) (h2 : up + ny ≤ 64)
    (hC1 : ∀ s k t, s < up + 1 → k < 4 → (zb_t (C s k) t = true ↔ zb_t (A s k) t = true ∨ (s = 0 ∧ up ≤ t ∧ t < 64 ∧ zb_t (B 0 k) (t - up) = true)))
    (hC2 : ∀ s k t, 1 ≤ s → s < ny → k < 4 → (zb_t (C (up + s) k) t = true ↔ up ≤ t ∧ t < 64 ∧ zb_t (B s k) (t - up) = true))
    (hD1 : ∀ s, s < up + 1 → ¬ P s = 0 → ¬ D s = 0)
    (hD2 : ∀ s, 1 ≤ s → s < ny → ¬ Q s = 0 → ¬ D (up + s) = 0) : zm_g (up + ny) C D := by
  obtain ⟨rA, μ, mA⟩ := hA
  obtain ⟨rB, ν, mB⟩ := hB
  refine ⟨fun s k t hs hk g => ?_, fun q => if q ≤ up then μ q else ν (q - up), fun s hs => ?_⟩
  · rcases Nat.lt_or_ge s (up + 1) with c | c
    · rcases (hC1 s k t c hk).mp g with g | ⟨_, _, _, g⟩
      · have := rA s k t c hk g
        omega
      · have := rB 0 k (t - up) (by omega) hk g
        omega
    · have e : s = up + (s - up) := by omega
      rw [e] at g
      obtain ⟨_, _, g⟩ := (hC2 (s - up) k t (by omega) (by omega) hk).mp g
      have := rB (s - up) k (t - up) (by omega) hk g
      omega
  · dsimp only
    rcases Nat.lt_or_ge s (up + 1) with c | c
    · rw [if_pos (show s ≤ up by omega)]
      rcases mA s c with p | ⟨k, hk, t, ht, g⟩
      · exact Or.inl (hD1 s c p)
      · have r := rA s k t c hk ht
        refine Or.inr ⟨k, hk, t, (hC1 s k t c hk).mpr (Or.inl ht), ?_⟩
        rw [if_pos (by omega)]; exact g
    · have e : s = up + (s - up) := by omega
      rw [if_neg (by omega)]
      rcases mB (s - up) (by omega) with q | ⟨k, hk, t, ht, g⟩
      · left; rw [e]; exact hD2 (s - up) (by omega) (by omega) q
      · have r := rB (s - up) k t (by omega) hk ht
        refine Or.inr ⟨k, hk, up + t, ?_, ?_⟩
        · rw [e]
          refine (hC2 (s - up) k _ (by omega) (by omega) hk).mpr ⟨by omega, by omega, ?_⟩
          rw [show up + t - up = t by omega]; exact ht
        · rw [if_neg (by omega), show up + t - up = t by omega]; exact g
theorem zm_dv {ny s t : Nat} (ht : t < ny) : (s * ny + t) / ny = s ∧ (s * ny + t) % ny = t := by
  have h0 : 0 < ny := by omega
  constructor
  · rw [Nat.add_comm, Nat.add_mul_div_right _ _ h0, Nat.div_eq_of_lt ht, Nat.zero_add]
  · rw [Nat.add_comm, Nat.add_mul_mod_self_right, Nat.mod_eq_of_lt ht]
theorem zm_bo {nx ny : Nat} {A B C : Nat → Nat → Int64} {P Q D : Nat → Int32} (hA : zm_g nx A P) (hB : zm_g ny B Q) (h1 : 1 ≤ ny)
    (hC : ∀ s t k i, s < nx → t < ny → k < 4 → (zb_t (C (s * ny + t) k) i = true ↔ (∃ p, zb_t (A s k) p = true ∧ i = p * ny + t) ∨ (∃ p, zb_t (B t k) p = true ∧ i = s * ny + p)))
    (hD : ∀ s t, s < nx → t < ny → ¬ P s = 0 → ¬ Q t = 0 → ¬ D (s * ny + t) = 0) : zm_g (nx * ny) C D := by
  obtain ⟨rA, μ, mA⟩ := hA
  obtain ⟨rB, ν, mB⟩ := hB
  have sp : ∀ q, q < nx * ny → ∃ s t, s < nx ∧ t < ny ∧ q = s * ny + t := by
    intro q hq
    refine ⟨q / ny, q % ny, (Nat.div_lt_iff_lt_mul (by omega)).mpr hq, Nat.mod_lt _ (by omega), ?_⟩
    rw [Nat.mul_comm]
    exact (Nat.div_add_mod q ny).symm
  refine ⟨fun q k i hq hk g => ?_, fun q => μ (q / ny) + ν (q % ny), fun q hq => ?_⟩
  · obtain ⟨s, t, hs, ht, rfl⟩ := sp q hq
    rcases (hC s t k i hs ht hk).mp g with ⟨p, hp, rfl⟩ | ⟨p, hp, rfl⟩
    · have r := rA s k p hs hk hp
      have l := zn_lin r.2 ht
      have : 1 * ny ≤ p * ny := Nat.mul_le_mul_right _ r.1
      omega
    · have r := rB t k p ht hk hp
      have l := zn_lin hs r.2
      omega
  · obtain ⟨s, t, hs, ht, rfl⟩ := sp q hq
    dsimp only
    rw [(zm_dv ht).1, (zm_dv ht).2]
    rcases mA s hs with pp | ⟨k, hk, p, hp, g⟩
    · rcases mB t ht with qq | ⟨k, hk, p, hp, g⟩
      · exact Or.inl (hD s t hs ht pp qq)
      · have r := rB t k p ht hk hp
        refine Or.inr ⟨k, hk, s * ny + p, (hC s t k _ hs ht hk).mpr (Or.inr ⟨p, hp, rfl⟩), ?_⟩
        rw [(zm_dv r.2).1, (zm_dv r.2).2]
        omega
    · refine Or.inr ⟨k, hk, p * ny + t, (hC s t k _ hs ht hk).mpr (Or.inl ⟨p, hp, rfl⟩), ?_⟩
      rw [(zm_dv ht).1, (zm_dv ht).2]
      omega
/-! ===== the stack: sizes z, places the sums of sizes ===== -/
def zs_sm (z : Nat → Nat) : Nat → Nat
  | 0 => 0
  | i + 1 => zs_sm z i + z i
def zs_pr (z : Nat → Nat) : Nat → Nat
  | 0 => 1
  | i + 1 => zs_pr z i * z i
def zs_up (z : Nat → Nat) (H n : Nat) : Nat → Nat := fun i => if i = H then n else z i
theorem zs_upS {z : Nat → Nat} {H n : Nat} : zs_up z H n H = n := if_pos rfl
theorem zs_upN {z : Nat → Nat} {H n i : Nat} (h : i ≠ H) : zs_up z H n i = z i := if_neg h
theorem zs_smC {z z' : Nat → Nat} : ∀ i, (∀ q, q < i → z' q = z q) → zs_sm z' i = zs_sm z i
  | 0, _ => rfl
  | i + 1, h => by
    show zs_sm z' i + z' i = zs_sm z i + z i
    rw [zs_smC i (fun q hq => h q (by omega)), h i (by omega)]
theorem zs_prC {z z' : Nat → Nat} : ∀ i, (∀ q, q < i → z' q = z q) → zs_pr z' i = zs_pr z i
  | 0, _ => rfl
  | i + 1, h => by
    show zs_pr z' i * z' i = zs_pr z i * z i
    rw [zs_prC i (fun q hq => h q (by omega)), h i (by omega)]
theorem zs_pos {z : Nat → Nat} : ∀ i, (∀ q, q < i → 1 ≤ z q) → 1 ≤ zs_pr z i
  | 0, _ => Nat.le_refl 1
  | i + 1, h => Nat.mul_pos (zs_pos i (fun q hq => h q (by omega))) (h i (by omega))
theorem zs_am {a b : Nat} (ha : 1 ≤ a) (hb : 1 ≤ b) : a + b ≤ a * b + 1 := by
  obtain ⟨a, rfl⟩ : ∃ c, a = c + 1 := ⟨a - 1, by omega⟩
  obtain ⟨b, rfl⟩ : ∃ c, b = c + 1 := ⟨b - 1, by omega⟩
  have : (a + 1) * (b + 1) = a * b + a + b + 1 := by
    rw [Nat.add_mul, Nat.mul_add]; omega
  omega
theorem zs_bd {z : Nat → Nat} : ∀ i, (∀ q, q < i → 1 ≤ z q) → zs_sm z i + 1 ≤ zs_pr z i + i
  | 0, _ => Nat.le_refl 1
  | i + 1, h => by
    have h1 := zs_bd i (fun q hq => h q (by omega))
    have h2 := zs_am (zs_pos i (fun q hq => h q (by omega))) (h i (by omega))
    show zs_sm z i + z i + 1 ≤ zs_pr z i * z i + (i + 1)
    omega
theorem zs_mono {z : Nat → Nat} {i : Nat} : ∀ {H : Nat}, i < H → zs_sm z i + z i ≤ zs_sm z H
  | 0, h => absurd h (by omega)
  | H + 1, h => by
    show zs_sm z i + z i ≤ zs_sm z H + z H
    by_cases e : i = H
    · subst e; exact Nat.le_refl _
    · have := zs_mono (z := z) (i := i) (H := H) (by omega)
      omega
end
section
/-! ===== the process: its walks ===== -/
theorem zw_b0 : ∀ i, i < 4 → (((0 : Int32) >>> (nI i &&& 31)) &&& 1) = 0 := by decide +kernel
section
variable {fh fm fe fj fs fl : Int32} {ff : Int64} {a1 a2 a4 a6 a8 : Nat → Int32} {a3 a5 a7 a9 : Nat → Int64}
theorem zw_bf18 {post : Int64 → Prop} {J : Int64 → Int32 → Prop} {S w : Int64} {s : Nat} (hs : s < 64)
    (H : ∀ r, (∀ i, zb_t r i = true ↔ zb_t w i = true ∨ (i = s ∧ ∃ k, k < 4 ∧ ∃ t, zb_t (a7 (s * 4 + k)) t = true ∧ zb_t S t = true)) → J r (nI (s + 1))) :
    ∃ f, wX_before_18 post J S 0 (nI s) fh fm fe fj fs ff fl a1 a2 a3 a4 a5 a6 a7 a8 a9 f w 0 := by
  refine pk_loop (fun f i x => wX_before_18 post J S 0 (nI s) fh fm fe fj fs ff fl a1 a2 a3 a4 a5 a6 a7 a8 a9 f x (nI i))
    (fun k r => ∀ i, zb_t r i = true ↔ zb_t w i = true ∨ (i = s ∧ ∃ k', k' < k ∧ ∃ t, zb_t (a7 (s * 4 + k')) t = true ∧ zb_t S t = true)) 4 0 w (by omega) ?_ ?_ ?_
  · intro i
    refine ⟨Or.inl, fun g => g.elim id ?_⟩
    rintro ⟨_, k, hk, _⟩
    exact absurd hk (by omega)
  · exact fun f x hx => pk_le 4 4 (fun _ => nm_r (nI_1 s) (H x hx)) (fun z => absurd z (by omega))
  · intro f i x hi hx hw
    have e : (nI s * 4 + nI i).toNatClampNeg = s * 4 + i := pk_cl _ (zn_ix s i)
    refine pk_le 4 i (fun z => absurd z (by omega)) (fun _ => br_t (zw_b0 i hi) ⟨pk_in (s * 4 + i) 256 (by omega) (zn_ix s i), br_c (fun g => nm_r (nI_1 i) (hw x ?_)) (fun g => nm_e (nm_r (nI_1 i) (hw _ ?_)))⟩)
    · rw [e] at g
      intro q
      rw [hx q]
      constructor
      · rintro (y | ⟨y, k, hk, y2⟩)
        · exact Or.inl y
        · exact Or.inr ⟨y, k, by omega, y2⟩
      · rintro (y | ⟨y, k, hk, t, y2, y3⟩)
        · exact Or.inl y
        · by_cases c : k = i
          · subst c
            exact absurd g (zb_anz.mpr ⟨t, y2, y3⟩)
          · exact Or.inr ⟨y, k, by omega, t, y2, y3⟩
    · rw [e] at g
      intro q
      rw [zb_orT, hx q, zb_one hs]
      constructor
      · rintro ((y | ⟨y, k, hk, y2⟩) | y)
        · exact Or.inl y
        · exact Or.inr ⟨y, k, by omega, y2⟩
        · obtain ⟨t, y2, y3⟩ := zb_anz.mp g
          exact Or.inr ⟨y, i, by omega, t, y2, y3⟩
      · rintro (y | ⟨y, k, hk, y2⟩)
        · exact Or.inl (Or.inl y)
        · exact Or.inr y
theorem zw_bf {post : Int64 → Prop} {S : Int64} {n : Nat} (hn : n ≤ 64) (H : ∀ r, zp_bf n a7 S r → post r) :
    wpX_before post (fh, fm, fe, fj, nI n, ff, fl, a1, a2, a3, a4, a5, a6, a7, a8, a9) S 0 := by
  refine pk_loop (fun f i x => wX_before_6 post S 0 fh fm fe fj (nI n) ff fl a1 a2 a3 a4 a5 a6 a7 a8 a9 f x (nI i))
    (fun s r => zp_bf s a7 S r) n 0 S (by omega) ?_ ?_ ?_
  · intro i
    refine ⟨Or.inl, fun g => g.elim id ?_⟩
    rintro ⟨h, _⟩
    exact absurd h (by omega)
  · exact fun f x hx => pk_le n n (fun _ => H x hx) (fun z => absurd z (by omega))
  · intro f i x hi hx hw
    refine pk_le n i (fun z => absurd z (by omega)) (fun _ => zw_bf18 (by omega) (fun r hr => hw r ?_))
    intro q
    rw [hr q, hx q]
    constructor
    · rintro ((y | ⟨y, y2⟩) | ⟨y, y2⟩)
      · exact Or.inl y
      · exact Or.inr ⟨by omega, y2⟩
      · subst y
        exact Or.inr ⟨by omega, y2⟩
    · rintro (y | ⟨y, y2⟩)
      · exact Or.inl (Or.inl y)
      · by_cases c : q = i
        · subst c
          exact Or.inr ⟨rfl, y2⟩
        · exact Or.inl (Or.inr ⟨by omega, y2⟩)
theorem zw_lst {post : Int32 → Prop} {n : Nat} {S : Int64} (hn : n ≤ 64) (ok : zp_ok n a7 ff) (hS : ∀ t, zb_t S t = true → t < n)
    (H0 : S = 0 → post (-4)) (H1 : ∀ d, d ≤ 64 → zp_ds n a7 ff S d → post (nI d)) :
    wpX_least post (fh, fm, fe, fj, nI n, ff, fl, a1, a2, a3, a4, a5, a6, a7, a8, a9) S 0 := by
  refine pk_loop (fun f i x => wX_least_9 post S 0 fh fm fe fj (nI n) ff fl a1 a2 a3 a4 a5 a6 a7 a8 a9 f x (nI i))
    (fun d x => (∀ i, zb_t x i = true ↔ zp_rk n a7 ff d i) ∧ (∀ c, c < d → ¬ zp_hit n a7 ff S c) ∧ d ≤ zb_n x 64) 65 0 ff (by omega) ?_ ?_ ?_
  · exact ⟨fun i => Iff.rfl, fun c hc => absurd hc (by omega), Nat.zero_le _⟩
  · intro f x hx
    have := zb_nle x 64
    have := hx.2.2
    omega
  · rintro f d x hd ⟨h1, h2, h3⟩ hw
    refine pk_le 65 d (fun z => absurd z (by omega)) (fun _ => br_c (fun g => zw_bf hn (fun r hr => ?_)) (fun g => H1 d (by omega) ⟨?_, h2⟩))
    · have hz : ¬ zp_hit n a7 ff S d := by
        rintro ⟨i, y, y2⟩
        exact absurd g (zb_anz.mpr ⟨i, (h1 i).mpr y2, y⟩)
      have hr' : ∀ i, zb_t r i = true ↔ zp_rk n a7 ff (d + 1) i := by
        intro i
        rw [hr i, h1 i]
        constructor
        · rintro (y | ⟨y, k, hk, t, y2, y3⟩)
          · exact Or.inl y
          · exact Or.inr ⟨y, k, hk, t, y2, (h1 t).mp y3⟩
        · rintro (y | ⟨y, k, hk, t, y2, y3⟩)
          · exact Or.inl y
          · exact Or.inr ⟨y, k, hk, t, y2, (h1 t).mpr y3⟩
      refine br_c (fun er => H0 ?_) (fun er => nm_r (nI_1 d) (hw r ⟨hr', ?_, ?_⟩))
      · subst er
        have st := zp_stab (fun i y => (h1 i).mp ((hr' i).mpr y))
        apply Classical.byContradiction
        intro c
        obtain ⟨i, y⟩ := zb_nz.mp c
        obtain ⟨c', y2⟩ := zp_some ok i (hS i y)
        exact hz ⟨i, y, st c' i y2⟩
      · intro c hc
        by_cases e : c = d
        · subst e; exact hz
        · exact h2 c (by omega)
      · have sub : ∀ i, zb_t x i = true → zb_t r i = true := fun i y => (hr i).mpr (Or.inl y)
        have : ∃ i, ¬ zb_t x i = true ∧ zb_t r i = true := by
          apply Classical.byContradiction
          intro c
          apply er
          apply zb_ext
          intro i _
          cases cx : zb_t x i with
          | true => exact sub i cx
          | false =>
            cases cr : zb_t r i with
            | false => rfl
            | true => exact absurd ⟨i, by rw [cx]; decide, cr⟩ c
        obtain ⟨i, y, y2⟩ := this
        have := zb_nlt sub y y2 64 (zb_lt y2)
        omega
    · obtain ⟨i, y, y2⟩ := zb_anz.mp g
      exact ⟨i, y2, (h1 i).mp y⟩
theorem zw_stp {post : Int64 → Prop} {S : Int64} {n k : Nat} (hn : n ≤ 64) (hk : k < 4) (H : ∀ r, zp_st n a7 S k r → post r) :
    wpX_step post (fh, fm, fe, fj, nI n, ff, fl, a1, a2, a3, a4, a5, a6, a7, a8, a9) S (nI k) := by
  refine pk_loop (fun f i x => wX_step_6 post S (nI k) fh fm fe fj (nI n) ff fl a1 a2 a3 a4 a5 a6 a7 a8 a9 f x (nI i))
    (fun i r => zp_st i a7 S k r) n 0 0 (by omega) ?_ ?_ ?_
  · intro t
    rw [zb_0]
    refine ⟨fun g => absurd g (by decide), ?_⟩
    rintro ⟨s, hs, _⟩
    exact absurd hs (by omega)
  · exact fun f x hx => pk_le n n (fun _ => H x hx) (fun z => absurd z (by omega))
  · intro f i x hi hx hw
    have e : (nI i * 4 + nI k).toNatClampNeg = i * 4 + k := pk_cl _ (zn_ix i k)
    refine pk_le n i (fun z => absurd z (by omega)) (fun _ => ek_if (zb_tst (by omega) S) (fun g => ⟨pk_in (i * 4 + k) 256 (by omega) (zn_ix i k), nm_e (nm_r (nI_1 i) (hw _ ?_))⟩) (fun g => nm_r (nI_1 i) (hw x ?_)))
    · rw [e]
      intro t
      rw [zb_orT, hx t]
      constructor
      · rintro (⟨s, y, y2⟩ | y)
        · exact ⟨s, by omega, y2⟩
        · exact ⟨i, by omega, g, y⟩
      · rintro ⟨s, y, y2, y3⟩
        by_cases c : s = i
        · subst c; exact Or.inr y3
        · exact Or.inl ⟨s, by omega, y2, y3⟩
    · intro t
      rw [hx t]
      constructor
      · rintro ⟨s, y, y2⟩
        exact ⟨s, by omega, y2⟩
      · rintro ⟨s, y, y2, y3⟩
        by_cases c : s = i
        · subst c; exact absurd y2 g
        · exact ⟨s, by omega, y2, y3⟩
/-! the set behind the log -/
def zi_P (n : Nat) (fi : Int64) (l : Nat) (mv rc : Nat → Int64) : Prop :=
  1 ≤ n ∧ n ≤ 64 ∧ l ≤ 7 ∧ zp_ok n mv fi ∧ rc 0 = 1 ∧ ∀ i, i ≤ l → ¬ rc i = 0 ∧ ∀ t, zb_t (rc i) t = true → t < n
theorem zw_may {post : Int32 → Prop} {n l : Nat} (hl : l ≤ 7) (H0 : ¬ zp_hit n a7 ff (a9 l) 0 → post 0) (H1 : zp_hit n a7 ff (a9 l) 0 → post 1) :
    wpX_mayStop post (fh, fm, fe, fj, fs, ff, nI l, a1, a2, a3, a4, a5, a6, a7, a8, a9) := by
  refine ⟨pk_in l 8 (by omega), ?_⟩
  rw [nI_clamp (by omega)]
  refine br_c (fun g => H0 ?_) (fun g => H1 (zb_anz.mp g))
  intro y
  exact absurd g (zb_anz.mpr y)
theorem zw_rem {post : Int32 → Prop} {n l : Nat} (P : zi_P n ff l a7 a9) (H : ∀ d, d ≤ 64 → zp_ds n a7 ff (a9 l) d → post (nI d)) :
    wpX_remaining post (fh, fm, fe, fj, nI n, ff, nI l, a1, a2, a3, a4, a5, a6, a7, a8, a9) 0 := by
  obtain ⟨_, hn, hl, ok, _, hr⟩ := P
  refine br_f (by decide) (br_t (by decide) ⟨pk_in l 8 (by omega), ?_⟩)
  rw [nI_clamp (by omega)]
  exact zw_lst hn ok (hr l (by omega)).2 (fun y => absurd y (hr l (by omega)).1) H
theorem zw_adv {post : Int32 → Prop} {n l d : Nat} (P : zi_P n ff l a7 a9) (hd : zp_ds n a7 ff (a9 l) (d + 1)) (hd6 : d ≤ 64)
    (H : ∀ k, k < 4 → ∀ r, zp_st n a7 (a9 l) k r → zp_ds n a7 ff r d → post (nI k)) :
    wpX_advice post (fh, fm, fe, fj, nI n, ff, nI l, a1, a2, a3, a4, a5, a6, a7, a8, a9) := by
  obtain ⟨_, hn, hl, ok, _, hr⟩ := P
  have main : ∃ f, wX_advice_27 post (nI (d + 1)) fh fm fe fj (nI n) ff (nI l) a1 a2 a3 a4 a5 a6 a7 a8 a9 f 0 := by
    refine pk_loop (σ := Unit) (fun f i _ => wX_advice_27 post (nI (d + 1)) fh fm fe fj (nI n) ff (nI l) a1 a2 a3 a4 a5 a6 a7 a8 a9 f (nI i))
      (fun i _ => ∀ k, k < i → ∃ r, zp_st n a7 (a9 l) k r ∧ ¬ zp_ds n a7 ff r d) 4 0 () (by omega) (fun k hk => absurd hk (by omega)) ?_ ?_
    · intro f _ hx
      obtain ⟨k, hk, hr⟩ := zp_next hd
      obtain ⟨r, h, h2⟩ := hx k hk
      exact absurd (hr r h) h2
    · intro f i _ hi hx hw
      refine pk_le 4 i (fun z => absurd z (by omega)) (fun _ => ⟨pk_in l 8 (by omega), ?_⟩)
      rw [nI_clamp (by omega)]
      refine zw_stp hn hi (fun r h => zw_lst hn ok (zp_stL ok hi h) (fun z => br_f ?_ (nm_r (nI_1 i) (hw () ?_))) (fun c hc hds => ?_))
      · rw [nI_pred]
        intro y
        have : (-4 : Int32) < 0 := by decide
        rw [y] at this
        exact nI_pos (by omega) this
      · intro k hk
        by_cases e : k = i
        · subst e
          exact ⟨r, h, fun y => zp_dsN y z⟩
        · exact hx k (by omega)
      · rw [nI_pred]
        refine pk_eq c d (fun y => H i hi r h (y ▸ hds)) (fun y => nm_r (nI_1 i) (hw () ?_))
        intro k hk
        by_cases e : k = i
        · subst e
          exact ⟨r, h, fun y' => y (zp_dsU hds y')⟩
        · exact hx k (by omega)
  unfold wpX_advice
  refine zw_may (n := n) hl (fun h0 => br_t rfl ⟨pk_in l 8 (by omega), ?_⟩) (fun h0 => absurd h0 (hd.2 0 (by omega)))
  rw [nI_clamp (by omega)]
  refine zw_lst hn ok (hr l (by omega)).2 (fun y => absurd y (hr l (by omega)).1) (fun c _ hc => ?_)
  rw [zp_dsU hc hd]
  exact main
theorem zw_nor : ∀ q, q < 16 → ∀ i, i < 4 → nI q ||| ((1 : Int32) <<< (nI i &&& 31)) = nI (q ||| 2 ^ i) ∧ (q ||| 2 ^ i) < 16 ∧ ∀ k, k < 4 → (q ||| 2 ^ i).testBit k = (q.testBit k || decide (k = i)) := by decide +kernel
theorem zw_nbt : ∀ q, q < 16 → ∀ k, k < 4 → q.testBit k = true → ¬ ((nI q >>> ((nI k &&& 3) &&& 31)) &&& 1) = 0 := by decide +kernel
theorem zw_nxt {post : Int32 → Prop} {n l : Nat} (hn : n ≤ 64) (hl : l ≤ 7)
    (H : ∀ q, q < 16 → (∀ k, k < 4 → ∀ r, zp_st n a7 (a9 l) k r → ¬ r = 0 → q.testBit k = true) → post (nI q)) :
    wpX_next post (fh, fm, fe, fj, nI n, ff, nI l, a1, a2, a3, a4, a5, a6, a7, a8, a9) := by
  refine pk_loop (fun f i x => wX_next_4 post fh fm fe fj (nI n) ff (nI l) a1 a2 a3 a4 a5 a6 a7 a8 a9 f x (nI i))
    (fun i x => ∃ q, q < 16 ∧ x = nI q ∧ ∀ k, k < i → ∀ r, zp_st n a7 (a9 l) k r → ¬ r = 0 → q.testBit k = true) 4 0 0 (by omega) ?_ ?_ ?_
  · exact ⟨0, by omega, rfl, fun k hk => absurd hk (by omega)⟩
  · rintro f x ⟨q, hq, rfl, hx⟩
    exact pk_le 4 4 (fun _ => H q hq hx) (fun z => absurd z (by omega))
  · rintro f i x hi ⟨q, hq, rfl, hx⟩ hw
    refine pk_le 4 i (fun z => absurd z (by omega)) (fun _ => ⟨pk_in l 8 (by omega), ?_⟩)
    rw [nI_clamp (by omega)]
    obtain ⟨t1, t2, t3⟩ := zw_nor q hq i hi
    refine zw_stp hn hi (fun r h => br_c (fun z => nm_r (nI_1 i) (hw _ ⟨q, hq, rfl, ?_⟩)) (fun z => nm_r t1 (nm_r (nI_1 i) (hw _ ⟨_, t2, rfl, ?_⟩))))
    · intro k hk r' h' nz
      by_cases e : k = i
      · subst e
        exact absurd (zp_stU h' h ▸ z) nz
      · exact hx k (by omega) r' h' nz
    · intro k hk r' h' nz
      rw [t3 k (by omega)]
      by_cases e : k = i
      · rw [e, decide_eq_true rfl, Bool.or_true]
      · rw [hx k (by omega) r' h' nz, Bool.true_or]
theorem zw_fd {post : Int32 → St1 → Prop} {n l k : Nat} (hn : n ≤ 64) (hl : l < 7) (hk : k < 4)
    (H0 : ∀ r, zp_st n a7 (a9 l) k r → r = 0 → post (-4) (fh, fm, fe, fj, nI n, ff, nI l, a1, a2, a3, a4, a5, a6, a7, a8, a9))
    (H1 : ∀ r, zp_st n a7 (a9 l) k r → ¬ r = 0 → post (nI (l + 1)) (fh, fm, fe, fj, nI n, ff, nI (l + 1), a1, a2, a3, a4, a5, a6, a7, upd a8 l (nI k), vp_updL a9 (l + 1) r)) :
    wpX_feed post (fh, fm, fe, fj, nI n, ff, nI l, a1, a2, a3, a4, a5, a6, a7, a8, a9) (nI k) := by
  refine br_f (nI_pos (by omega)) (br_t (nI_le (b := 3) (by omega) (by decide)) (pk_eq l 7 (fun z => absurd z (by omega)) (fun _ => ⟨pk_in l 8 (by omega), ?_⟩)))
  rw [nI_clamp (by omega)]
  refine zw_stp hn hk (fun r h => br_c (fun z => H0 r h z) (fun z => ⟨pk_in l 8 (by omega), nm_e (nm_r (nI_1 l) ⟨pk_in (l + 1) 8 (by omega), ?_⟩)⟩))
  rw [nI_clamp (by omega)]
  exact nm_e (H1 r h z)
theorem zi_Pfd {n l k : Nat} {r fi : Int64} (P : zi_P n fi l a7 a9) (hl : l < 7) (hk : k < 4) (h : zp_st n a7 (a9 l) k r) (hr : ¬ r = 0) : zi_P n fi (l + 1) a7 (vp_updL a9 (l + 1) r) := by
  obtain ⟨h1, h2, h3, ok, h5, h6⟩ := P
  refine ⟨h1, h2, by omega, ok, by rw [pk_uLn (by omega)]; exact h5, fun i hi => ?_⟩
  by_cases e : i = l + 1
  · subst e
    rw [pk_uLs]
    exact ⟨hr, zp_stL ok hk h⟩
  · rw [pk_uLn e]
    exact h6 i (by omega)
end
end
section
/-! ===== the law's second loop: asking, and going the advised way ===== -/
section
variable {fh fm fe fj : Int32} {ff : Int64} {a1 a2 a4 a6 : Nat → Int32} {a3 a5 a7 : Nat → Int64}
theorem zl_38 {L : Nat} {xs : Nat → Int32} {kc ks n l : Nat} {a8 : Nat → Int32} {a9 : Nat → Int64} (P : zi_P n ff l a7 a9) :
    ∃ f, wL_law_38 (fun r => r = 1) L xs kc ks f 0 fh fm fe fj (nI n) ff (nI l) a1 a2 a3 a4 a5 a6 a7 a8 a9 := by
  refine pk_loop (σ := Nat × (Nat → Int32) × (Nat → Int64)) (fun f i s => wL_law_38 (fun r => r = 1) L xs kc ks f (nI i) fh fm fe fj (nI n) ff (nI s.1) a1 a2 a3 a4 a5 a6 a7 s.2.1 s.2.2)
    (fun _ s => zi_P n ff s.1 a7 s.2.2) 8 0 (l, a8, a9) (by omega) P ?_ ?_
  · exact fun f s _ => pk_le 8 8 (fun _ => rfl) (fun z => absurd z (by omega))
  · rintro f i ⟨l, a8, a9⟩ hi P hw
    have P : zi_P n ff l a7 a9 := P
    have hn := P.2.1
    have hl := P.2.2.1
    refine pk_le 8 i (fun z => absurd z (by omega)) (fun _ => zw_rem P (fun d hd h => br_f (nI_pos (by omega)) (zw_may (n := n) hl (fun h0 => pk_eq d 0 (fun e => absurd (e ▸ h.1) h0) (fun e => ?_)) (fun h1 => pk_eq d 0 (fun e => ?_) (fun e => absurd h1 (h.2 0 (by omega)))))))
    · obtain ⟨c, rfl⟩ : ∃ c, d = c + 1 := ⟨d - 1, by omega⟩
      refine br_t rfl (pk_le (c + 1) 0 (fun z => absurd z (by omega)) (fun _ => zw_adv P h (by omega) (fun k hk r hr hds => br_f (nI_pos (by omega)) (pk_lt 3 k (fun z => absurd z (by omega)) (fun _ => zw_nxt hn hl (fun q hq hb => br_f (zw_nbt q hq k hk (hb k hk r hr (zp_dsN hds))) ?_))))))
      refine pk_le 7 l (fun _ => nm_r (nI_1 i) (hw (l, a8, a9) P)) (fun hl => zw_fd hn hl hk (fun r' h' z => absurd z ?_) (fun r' h' nz => br_t (nI_1 l).symm ?_))
      · rw [zp_stU h' hr]
        exact zp_dsN hds
      · refine zw_rem (zi_Pfd P hl hk h' nz) (fun c' _ hc' => br_t ?_ (nm_r (nI_1 i) (hw (l + 1, _, _) (zi_Pfd P hl hk h' nz))))
        rw [pk_uLs, zp_stU h' hr] at hc'
        rw [nI_pred, zp_dsU hc' hds]
    · exact br_t rfl (pk_le d 0 (fun _ => nm_r (nI_1 i) (hw (l, a8, a9) P)) (fun z => absurd z (by omega)))
end
end
section
/-! ===== what the small loops write ===== -/
def zf_4 (y : Nat) (g : Nat → Int64) (o : Nat → Int64) (i : Nat) (b : Nat → Int64) : Prop :=
  (∀ k, k < i → b (y * 4 + k) = g k) ∧ ∀ q, q < y * 4 ∨ y * 4 + i ≤ q → b q = o q
def zf_p (y : Nat) (g : Nat → Int64 → Prop) (o : Nat → Int64) (i : Nat) (b : Nat → Int64) : Prop :=
  (∀ k, k < i → g k (b (y * 4 + k))) ∧ ∀ q, q < y * 4 ∨ y * 4 + i ≤ q → b q = o q
def zf_r (x : Nat) (g : Nat → Nat → Int64) (o : Nat → Int64) (i : Nat) (b : Nat → Int64) : Prop :=
  (∀ s k, s < i → k < 4 → b ((x + s) * 4 + k) = g s k) ∧ ∀ q, q < x * 4 ∨ (x + i) * 4 ≤ q → b q = o q
def zf_i (x : Nat) (g : Nat → Int32) (o : Nat → Int32) (i : Nat) (b : Nat → Int32) : Prop :=
  (∀ s, s < i → b (x + s) = g s) ∧ ∀ q, q < x ∨ x + i ≤ q → b q = o q
def zf_b (a : Nat → Int32) : Prop := ∀ q, a q = 0 ∨ a q = 1
theorem zf_40 {y : Nat} {g o : Nat → Int64} : zf_4 y g o 0 o := ⟨fun k hk => absurd hk (by omega), fun _ _ => rfl⟩
theorem zf_4s {y i p : Nat} {g o b : Nat → Int64} {v : Int64} (h : zf_4 y g o i b) (hp : p = y * 4 + i) (hv : v = g i) : zf_4 y g o (i + 1) (vp_updL b p v) := by
  subst hp hv
  refine ⟨fun k hk => ?_, fun q hq => ?_⟩
  · by_cases e : k = i
    · subst e; exact pk_uLs
    · rw [pk_uLn (by omega)]; exact h.1 k (by omega)
  · rw [pk_uLn (by omega)]; exact h.2 q (by omega)
theorem zf_p0 {y : Nat} {g : Nat → Int64 → Prop} {o : Nat → Int64} : zf_p y g o 0 o := ⟨fun k hk => absurd hk (by omega), fun _ _ => rfl⟩
theorem zf_ps {y i p : Nat} {g : Nat → Int64 → Prop} {o b : Nat → Int64} {v : Int64} (h : zf_p y g o i b) (hp : p = y * 4 + i) (hv : g i v) : zf_p y g o (i + 1) (vp_updL b p v) := by
  subst hp
  refine ⟨fun k hk => ?_, fun q hq => ?_⟩
  · by_cases e : k = i
    · subst e; rw [pk_uLs]; exact hv
    · rw [pk_uLn (by omega)]; exact h.1 k (by omega)
  · rw [pk_uLn (by omega)]; exact h.2 q (by omega)
theorem zf_r0 {x : Nat} {g : Nat → Nat → Int64} {o : Nat → Int64} : zf_r x g o 0 o := ⟨fun s k hs => absurd hs (by omega), fun _ _ => rfl⟩
theorem zf_rs {x i : Nat} {g : Nat → Nat → Int64} {o b b' : Nat → Int64} (h : zf_r x g o i b) (h4 : zf_4 (x + i) (g i) b 4 b') : zf_r x g o (i + 1) b' := by
  refine ⟨fun s k hs hk => ?_, fun q hq => ?_⟩
  · by_cases e : s = i
    · subst e; exact h4.1 k hk
    · rw [h4.2 _ (by omega)]; exact h.1 s k (by omega) hk
  · rw [h4.2 q (by omega), h.2 q (by omega)]
theorem zf_i0 {x : Nat} {g o : Nat → Int32} : zf_i x g o 0 o := ⟨fun s hs => absurd hs (by omega), fun _ _ => rfl⟩
theorem zf_is {x i p : Nat} {g o b : Nat → Int32} {v : Int32} (h : zf_i x g o i b) (hp : p = x + i) (hv : v = g i) : zf_i x g o (i + 1) (upd b p v) := by
  subst hp hv
  refine ⟨fun s hs => ?_, fun q hq => ?_⟩
  · by_cases e : s = i
    · subst e; exact pk_us
    · rw [pk_un (by omega)]; exact h.1 s (by omega)
  · rw [pk_un (by omega)]; exact h.2 q (by omega)
theorem zf_bu {a : Nat → Int32} {k : Nat} {v : Int32} (h : zf_b a) (hv : v = 0 ∨ v = 1) : zf_b (upd a k v) := by
  intro q
  by_cases e : q = k
  · subst e; rw [pk_us]; exact hv
  · rw [pk_un e]; exact h q
theorem zf_bi {x i : Nat} {g o b : Nat → Int32} (h : zf_i x g o i b) (ho : zf_b o) (hg : ∀ s, s < i → g s = 0 ∨ g s = 1) : zf_b b := by
  intro q
  by_cases c : x ≤ q ∧ q < x + i
  · have t := h.1 (q - x) (by omega)
    rw [show x + (q - x) = q by omega] at t
    rw [t]
    exact hg (q - x) (by omega)
  · rw [h.2 q (by omega)]
    exact ho q
theorem zf_nr {v : Int32} (h : v = 0 ∨ v = 1) : vp_nar .boolean v = v := by
  rcases h with rfl | rfl <;> decide
section
variable {fh fm fe fj fs fl : Int32} {ff : Int64} {a1 a2 a4 a6 a8 : Nat → Int32} {a3 a5 a7 a9 : Nat → Int64}
theorem zw_cp {post : St1 → Prop} {p1 p2 p3 : Int32} {x y c : Nat} (h1 : p1 = nI x) (h2 : p2 = nI y) (h3 : p3 = nI c) (hx : x < 80) (hy : y < 64)
    (H : ∀ b, zf_4 y (fun k => a3 (x * 4 + k) <<< ((nI c).toInt64 &&& 63)) a5 4 b → post (fh, fm, fe, fj, fs, ff, fl, a1, a2, a3, a4, b, a6, a7, a8, a9)) :
    wpX_copyEdges post (fh, fm, fe, fj, fs, ff, fl, a1, a2, a3, a4, a5, a6, a7, a8, a9) p1 p2 p3 := by
  subst h1 h2 h3
  refine pk_loop (fun f i b => wX_copyEdges_3 post (nI x) (nI y) (nI c) fh fm fe fj fs ff fl f (nI i) a1 a2 a3 a4 b a6 a7 a8 a9)
    (fun i b => zf_4 y (fun k => a3 (x * 4 + k) <<< ((nI c).toInt64 &&& 63)) a5 i b) 4 0 a5 (by omega) zf_40 ?_ ?_
  · exact fun f b h => pk_le 4 4 (fun _ => H b h) (fun z => absurd z (by omega))
  · intro f i b hi h hw
    exact pk_le 4 i (fun z => absurd z (by omega)) (fun _ => ⟨pk_in (x * 4 + i) 320 (by omega) (zn_ix x i), pk_in (y * 4 + i) 256 (by omega) (zn_ix y i), nm_e (nm_r (nI_1 i) (hw _ (zf_4s h (pk_cl _ (zn_ix y i)) (by rw [pk_cl _ (zn_ix x i)]))))⟩)
theorem zw_ad {post : St1 → Prop} {p1 p2 p3 : Int32} {x y c : Nat} (h1 : p1 = nI x) (h2 : p2 = nI y) (h3 : p3 = nI c) (hx : x < 80) (hy : y < 64)
    (H : ∀ b, zf_4 y (fun k => a5 (y * 4 + k) ||| (a3 (x * 4 + k) <<< ((nI c).toInt64 &&& 63))) a5 4 b → post (fh, fm, fe, fj, fs, ff, fl, a1, a2, a3, a4, b, a6, a7, a8, a9)) :
    wpX_addEdges post (fh, fm, fe, fj, fs, ff, fl, a1, a2, a3, a4, a5, a6, a7, a8, a9) p1 p2 p3 := by
  subst h1 h2 h3
  refine pk_loop (fun f i b => wX_addEdges_3 post (nI x) (nI y) (nI c) fh fm fe fj fs ff fl f (nI i) a1 a2 a3 a4 b a6 a7 a8 a9)
    (fun i b => zf_4 y (fun k => a5 (y * 4 + k) ||| (a3 (x * 4 + k) <<< ((nI c).toInt64 &&& 63))) a5 i b) 4 0 a5 (by omega) zf_40 ?_ ?_
  · exact fun f b h => pk_le 4 4 (fun _ => H b h) (fun z => absurd z (by omega))
  · intro f i b hi h hw
    exact pk_le 4 i (fun z => absurd z (by omega)) (fun _ => ⟨pk_in (y * 4 + i) 256 (by omega) (zn_ix y i), pk_in (x * 4 + i) 320 (by omega) (zn_ix x i), pk_in (y * 4 + i) 256 (by omega) (zn_ix y i), nm_e (nm_r (nI_1 i) (hw _ (zf_4s h (pk_cl _ (zn_ix y i)) (by rw [pk_cl _ (zn_ix x i), pk_cl _ (zn_ix y i), h.2 (y * 4 + i) (by omega)]))))⟩)
theorem zw_cl {post : St1 → Prop} {x : Nat} (hx : x < 80) (H : ∀ b, zf_4 x (fun _ => 0) a3 4 b → post (fh, fm, fe, fj, fs, ff, fl, a1, a2, b, a4, a5, a6, a7, a8, a9)) :
    wpX_clearEdges post (fh, fm, fe, fj, fs, ff, fl, a1, a2, a3, a4, a5, a6, a7, a8, a9) (nI x) := by
  refine pk_loop (fun f i b => wX_clearEdges_2 post (nI x) fh fm fe fj fs ff fl f (nI i) a1 a2 b a4 a5 a6 a7 a8 a9)
    (fun i b => zf_4 x (fun _ => 0) a3 i b) 4 0 a3 (by omega) zf_40 ?_ ?_
  · exact fun f b h => pk_le 4 4 (fun _ => H b h) (fun z => absurd z (by omega))
  · intro f i b hi h hw
    exact pk_le 4 i (fun z => absurd z (by omega)) (fun _ => ⟨pk_in (x * 4 + i) 320 (by omega) (zn_ix x i), nm_e (nm_r (nI_1 i) (hw _ (zf_4s h (pk_cl _ (zn_ix x i)) rfl)))⟩)
theorem zw_ag {post : St1 → Prop} {p1 p2 : Int32} {x y : Nat} (h1 : p1 = nI x) (h2 : p2 = nI y) (hx : x < 80) (hy : y < 80) (hn : x ≠ y)
    (H : ∀ b, zf_4 y (fun k => a3 (y * 4 + k) ||| a3 (x * 4 + k)) a3 4 b → post (fh, fm, fe, fj, fs, ff, fl, a1, a2, b, a4, a5, a6, a7, a8, a9)) :
    wpX_again post (fh, fm, fe, fj, fs, ff, fl, a1, a2, a3, a4, a5, a6, a7, a8, a9) p1 p2 := by
  subst h1 h2
  refine pk_loop (fun f i b => wX_again_2 post (nI x) (nI y) fh fm fe fj fs ff fl f (nI i) a1 a2 b a4 a5 a6 a7 a8 a9)
    (fun i b => zf_4 y (fun k => a3 (y * 4 + k) ||| a3 (x * 4 + k)) a3 i b) 4 0 a3 (by omega) zf_40 ?_ ?_
  · exact fun f b h => pk_le 4 4 (fun _ => H b h) (fun z => absurd z (by omega))
  · intro f i b hi h hw
    exact pk_le 4 i (fun z => absurd z (by omega)) (fun _ => ⟨pk_in (y * 4 + i) 320 (by omega) (zn_ix y i), pk_in (x * 4 + i) 320 (by omega) (zn_ix x i), pk_in (y * 4 + i) 320 (by omega) (zn_ix y i), nm_e (nm_r (nI_1 i) (hw _ (zf_4s h (pk_cl _ (zn_ix y i)) (by rw [pk_cl _ (zn_ix x i), pk_cl _ (zn_ix y i), h.2 (y * 4 + i) (by omega), h.2 (x * 4 + i) (by omega)]))))⟩)
theorem zw_73 {post : Int32 → St1 → Prop} {J : Int32 → (Nat → Int32) → (Nat → Int32) → (Nat → Int64) → (Nat → Int32) → (Nat → Int64) → (Nat → Int32) → (Nat → Int64) → (Nat → Int32) → (Nat → Int64) → Prop} {x s : Nat} (hx : x + s < 80) (hs : s < 64)
    (H : ∀ b, zf_4 (x + s) (fun k => a5 (s * 4 + k)) a3 4 b → J (nI (s + 1)) a1 a2 b a4 a5 a6 a7 a8 a9) :
    ∃ f, wX_settle_73 post J (nI x) (nI s) fh fm fe fj fs ff fl f 0 a1 a2 a3 a4 a5 a6 a7 a8 a9 := by
  refine pk_loop (fun f i b => wX_settle_73 post J (nI x) (nI s) fh fm fe fj fs ff fl f (nI i) a1 a2 b a4 a5 a6 a7 a8 a9)
    (fun i b => zf_4 (x + s) (fun k => a5 (s * 4 + k)) a3 i b) 4 0 a3 (by omega) zf_40 ?_ ?_
  · exact fun f b h => pk_le 4 4 (fun _ => nm_r (nI_1 s) (H b h)) (fun z => absurd z (by omega))
  · intro f i b hi h hw
    exact pk_le 4 i (fun z => absurd z (by omega)) (fun _ => ⟨pk_in (s * 4 + i) 256 (by omega) (zn_ix s i), pk_in ((x + s) * 4 + i) 320 (by omega) (zn_ix2 x s i), nm_e (nm_r (nI_1 i) (hw _ (zf_4s h (pk_cl _ (zn_ix2 x s i)) (by rw [pk_cl _ (zn_ix s i)]))))⟩)
theorem zw_set {post : Int32 → St1 → Prop} {H x J : Nat} (hH : H < 7) (hx : a1 H = nI x) (hJ : J ≤ 64) (hxJ : x + J ≤ 80)
    (G : ∀ b3 b4, zf_r x (fun s k => a5 (s * 4 + k)) a3 J b3 → zf_i x (fun s => vp_nar .boolean (a6 s)) a4 J b4 →
      post (nI (H + 1)) (nI (H + 1), fm + 1, fe, nI J, fs, ff, fl, a1, upd a2 H (nI J), b3, b4, a5, a6, a7, a8, a9)) :
    wpX_settle post (nI (H + 2), fm, fe, nI J, fs, ff, fl, a1, a2, a3, a4, a5, a6, a7, a8, a9) := by
  have e : nI (H + 1) - 1 = nI H := nI_pred H
  have ec : (nI (H + 1) - 1).toNatClampNeg = H := pk_cl H e
  refine nm_r (nI_pred (H + 1)) (nm_e ⟨pk_in H 8 (by omega) e, nm_r (show a1 (nI (H + 1) - 1).toNatClampNeg = nI x by rw [ec, hx]) ⟨pk_in H 8 (by omega) e, nm_r (show upd a2 (nI (H + 1) - 1).toNatClampNeg (nI J) = upd a2 H (nI J) by rw [ec]) ?_⟩⟩)
  refine pk_loop (σ := (Nat → Int64) × (Nat → Int32)) (fun f i s => wX_settle_49 post (nI x) (nI (H + 1)) (fm + 1) fe (nI J) fs ff fl f (nI i) a1 (upd a2 H (nI J)) s.1 s.2 a5 a6 a7 a8 a9)
    (fun i s => zf_r x (fun s k => a5 (s * 4 + k)) a3 i s.1 ∧ zf_i x (fun s => vp_nar .boolean (a6 s)) a4 i s.2) J 0 (a3, a4) (by omega) ⟨zf_r0, zf_i0⟩ ?_ ?_
  · rintro f ⟨b3, b4⟩ ⟨h3, h4⟩
    exact pk_le J J (fun _ => G b3 b4 h3 h4) (fun z => absurd z (by omega))
  · rintro f i ⟨b3, b4⟩ hi ⟨h3, h4⟩ hw
    exact pk_le J i (fun z => absurd z (by omega)) (fun _ => ⟨pk_in i 64 (by omega), pk_in (x + i) 80 (by omega) (nI_add x i), nm_e (zw_73 (by omega) (by omega) (fun b hb => hw (b, _) ⟨zf_rs h3 hb, zf_is h4 (pk_cl _ (nI_add x i)) (by rw [nI_clamp (by omega)])⟩))⟩)
theorem zw_tail {post : St1 → Prop} {H y up ny : Nat} (hH : H < 8) (h2 : a2 H = nI ny) (hny : 1 ≤ ny) (hy : y + ny ≤ 80) (hu : up + ny ≤ 64)
    (G : ∀ b5 b6, zf_r (up + 1) (fun s k => a3 ((y + 1 + s) * 4 + k) <<< ((nI up).toInt64 &&& 63)) a5 (ny - 1) b5 → zf_i (up + 1) (fun s => vp_nar .boolean (a4 (y + 1 + s))) a6 (ny - 1) b6 →
      post (nI (H + 1), fm, fe, nI (up + ny), fs, ff, fl, a1, a2, a3, a4, b5, b6, a7, a8, a9)) :
    wpX_appendTail post (nI (H + 1), fm, fe, fj, fs, ff, fl, a1, a2, a3, a4, a5, a6, a7, a8, a9) (nI y) (nI up) := by
  have e : nI (H + 1) - 1 = nI H := nI_pred H
  have ec : (nI (H + 1) - 1).toNatClampNeg = H := pk_cl H e
  refine ⟨pk_in H 8 (by omega) e, nm_r (show a2 (nI (H + 1) - 1).toNatClampNeg = nI ny by rw [ec, h2]) ?_⟩
  refine pk_loop (σ := (Nat → Int64) × (Nat → Int32)) (fun f i s => wX_appendTail_15 post (nI y) (nI up) (nI ny) f (nI (i + 1)) (nI (H + 1)) fm fe fj fs ff fl a1 a2 a3 a4 s.1 s.2 a7 a8 a9)
    (fun i s => zf_r (up + 1) (fun s k => a3 ((y + 1 + s) * 4 + k) <<< ((nI up).toInt64 &&& 63)) a5 i s.1 ∧ zf_i (up + 1) (fun s => vp_nar .boolean (a4 (y + 1 + s))) a6 i s.2) (ny - 1) 0 (a5, a6) (by omega) ⟨zf_r0, zf_i0⟩ ?_ ?_
  · rintro f ⟨b5, b6⟩ ⟨h5, h6⟩
    exact pk_le ny (ny - 1 + 1) (fun _ => nm_r (nI_add up ny) (G b5 b6 h5 h6)) (fun z => absurd z (by omega))
  · rintro f i ⟨b5, b6⟩ hi ⟨h5, h6⟩ hw
    have e1 : nI y + nI (i + 1) = nI (y + 1 + i) := by rw [nI_add, show y + (i + 1) = y + 1 + i by omega]
    have e2 : nI up + nI (i + 1) = nI (up + 1 + i) := by rw [nI_add, show up + (i + 1) = up + 1 + i by omega]
    exact pk_le ny (i + 1) (fun z => absurd z (by omega)) (fun _ => ⟨pk_in (y + 1 + i) 80 (by omega) e1, pk_in (up + 1 + i) 64 (by omega) e2, nm_e (zw_cp e1 e2 rfl (by omega) (by omega) (fun b hb => nm_r (nI_1 (i + 1)) (hw (b, _) ⟨zf_rs h5 hb, zf_is h6 (pk_cl _ e2) (by rw [pk_cl _ e1])⟩)))⟩)
end
end
section
/-! ===== the stack of machines ===== -/
def zi_L (H : Nat) (z : Nat → Nat) (a1 a2 : Nat → Int32) (a3 : Nat → Int64) (a4 : Nat → Int32) : Prop :=
  ∀ i, i < H → 1 ≤ z i ∧ a1 i = nI (zs_sm z i) ∧ a2 i = nI (z i) ∧ zm_g (z i) (fun s k => a3 ((zs_sm z i + s) * 4 + k)) (fun s => a4 (zs_sm z i + s))
def zi_B (H E : Nat) (z : Nat → Nat) (a1 a2 : Nat → Int32) (a3 : Nat → Int64) (a4 a6 : Nat → Int32) : Prop :=
  H ≤ 8 ∧ E ≤ 6 ∧ zs_pr z H ≤ 2 ^ E ∧ zi_L H z a1 a2 a3 a4 ∧ zf_b a4 ∧ zf_b a6
def zi_K (fs : Int32) (ff : Int64) (fl : Int32) (a7 : Nat → Int64) (a8 : Nat → Int32) (a9 : Nat → Int64) (post : Int32 → St1 → Prop) : Prop :=
  ∀ (r : Int32) (H E : Nat) (z : Nat → Nat) (fm fj : Int32) (a1 a2 : Nat → Int32) (a3 : Nat → Int64) (a4 : Nat → Int32) (a5 : Nat → Int64) (a6 : Nat → Int32),
    zi_B H E z a1 a2 a3 a4 a6 → post r (nI H, fm, nI E, fj, fs, ff, fl, a1, a2, a3, a4, a5, a6, a7, a8, a9)
theorem zi_pw {E : Nat} (h : E ≤ 6) : 2 ^ E ≤ 64 := Nat.pow_le_pow_right (n := 2) (by decide) h
theorem zi_top {H n E : Nat} {z : Nat → Nat} {a1 b1 a2 b2 a4 b4 b6 : Nat → Int32} {a3 b3 : Nat → Int64} (hH : H < 8) (hE : E ≤ 6) (hn : 1 ≤ n) (hp : zs_pr z H * n ≤ 2 ^ E) (hL : zi_L H z a1 a2 a3 a4)
    (h1 : ∀ i, i < H → b1 i = a1 i) (h1' : b1 H = nI (zs_sm z H)) (h2 : ∀ i, i < H → b2 i = a2 i) (h2' : b2 H = nI n)
    (h3 : ∀ q, q < zs_sm z H * 4 → b3 q = a3 q) (h4 : ∀ q, q < zs_sm z H → b4 q = a4 q)
    (hg : zm_g n (fun s k => b3 ((zs_sm z H + s) * 4 + k)) (fun s => b4 (zs_sm z H + s))) (c4 : zf_b b4) (c6 : zf_b b6) :
    zi_B (H + 1) E (zs_up z H n) b1 b2 b3 b4 b6 := by
  have sm : ∀ i, i ≤ H → zs_sm (zs_up z H n) i = zs_sm z i := fun i hi => zs_smC i (fun q hq => zs_upN (by omega))
  refine ⟨by omega, hE, ?_, fun i hi => ?_, c4, c6⟩
  · show zs_pr (zs_up z H n) H * zs_up z H n H ≤ 2 ^ E
    rw [zs_prC H (fun q hq => zs_upN (by omega)), zs_upS]
    exact hp
  · rw [sm i (by omega)]
    by_cases e : i = H
    · subst e
      rw [zs_upS]
      exact ⟨hn, h1', h2', hg⟩
    · have hi' : i < H := by omega
      rw [zs_upN e]
      obtain ⟨g1, g2, g3, g4⟩ := hL i hi'
      have mo := zs_mono (z := z) hi'
      refine ⟨g1, by rw [h1 i hi', g2], by rw [h2 i hi', g3], zm_cg g4 (fun s k hs hk => h3 _ (by omega)) (fun s hs => ?_)⟩
      show ¬ a4 (zs_sm z i + s) = 0 → ¬ b4 (zs_sm z i + s) = 0
      rw [h4 _ (by omega)]
      exact id
theorem zm_ev {F k : Nat} {o3 b3 : Nat → Int64} {b4 : Nat → Int32} (h3 : zf_r F (fun _ _ => 0) o3 2 b3) (hk : k < 4) :
    zm_g 2 (fun s q => vp_updL b3 (F * 4 + k) 2 ((F + s) * 4 + q)) (fun s => upd b4 (F + 1) 1 (F + s)) := by
  have row : ∀ s q, s < 2 → q < 4 → vp_updL b3 (F * 4 + k) 2 ((F + s) * 4 + q) = if s = 0 ∧ q = k then 2 else 0 := by
    intro s q hs hq
    by_cases c : s = 0 ∧ q = k
    · rw [if_pos c, c.1, c.2, Nat.add_zero, pk_uLs]
    · rw [if_neg c, pk_uLn (by omega), h3.1 s q hs hq]
  refine ⟨fun s q t hs hq g => ?_, fun s => 1 - s, fun s hs => ?_⟩
  · dsimp only at g
    rw [row s q hs hq] at g
    split at g
    · rw [zb_2, decide_eq_true_iff] at g; omega
    · rw [zb_0] at g; exact absurd g (by decide)
  · by_cases c : s = 0
    · subst c
      refine Or.inr ⟨k, hk, 1, ?_, by decide⟩
      dsimp only
      rw [row 0 k (by omega) hk, if_pos ⟨rfl, rfl⟩, zb_2]
      rfl
    · have e : s = 1 := by omega
      subst e
      left
      dsimp only
      rw [pk_us]
      decide
theorem zm_sk {F : Nat} {o3 b3 : Nat → Int64} {b4 : Nat → Int32} (h3 : zf_r F (fun _ _ => 0) o3 1 b3) :
    zm_g 1 (fun s q => b3 ((F + s) * 4 + q)) (fun s => upd b4 F 1 (F + s)) := by
  refine ⟨fun s q t hs hq g => ?_, fun _ => 0, fun s hs => ?_⟩
  · dsimp only at g
    rw [h3.1 s q hs hq, zb_0] at g
    exact absurd g (by decide)
  · have e : s = 0 := by omega
    subst e
    left
    dsimp only
    rw [Nat.add_zero, pk_us]
    decide
section
variable {fh fm fe fj fs fl : Int32} {ff : Int64} {a1 a2 a4 a6 a8 : Nat → Int32} {a3 a5 a7 a9 : Nat → Int64}
theorem zw_ref {post : Int32 → Prop} {c H : Nat} {p : Int32} (hp : p = nI c) (hc : c ≤ 8) (hH : H ≤ 8) (G0 : c ≤ H → post 0) (G1 : ∀ r, ¬ 0 ≤ r → post r) :
    wpX_refused post (nI H, fm, fe, fj, fs, ff, fl, a1, a2, a3, a4, a5, a6, a7, a8, a9) p := by
  subst hp
  exact br_c (fun _ => G1 _ (by decide)) (fun _ => pk_le c H G0 (fun _ => G1 _ (by decide)))
theorem zw_o33 {post : Int32 → St1 → Prop} {H F n : Nat} (hH : H < 8) (hF : F + n ≤ 80)
    (G : ∀ b3 b4, zf_r F (fun _ _ => 0) a3 n b3 → zf_i F (fun _ => 0) a4 n b4 → post (nI F) (nI (H + 1), fm, fe, fj, fs, ff, fl, upd a1 H (nI F), upd a2 H (nI n), b3, b4, a5, a6, a7, a8, a9)) :
    wX_open_33 post (nI n) (nI F) (nI H) fm fe fj fs ff fl a1 a2 a3 a4 a5 a6 a7 a8 a9 := by
  refine ⟨pk_in H 8 hH, nm_r (show upd a1 (nI H).toNatClampNeg (nI F) = upd a1 H (nI F) by rw [nI_clamp (by omega)]) ⟨pk_in H 8 hH, nm_r (show upd a2 (nI H).toNatClampNeg (nI n) = upd a2 H (nI n) by rw [nI_clamp (by omega)]) (nm_r (nI_1 H) ?_)⟩⟩
  refine pk_loop (σ := (Nat → Int64) × (Nat → Int32)) (fun f i s => wX_open_65 post (nI n) (nI F) f (nI (F + i)) (nI (H + 1)) fm fe fj fs ff fl (upd a1 H (nI F)) (upd a2 H (nI n)) s.1 s.2 a5 a6 a7 a8 a9)
    (fun i s => zf_r F (fun _ _ => 0) a3 i s.1 ∧ zf_i F (fun _ => 0) a4 i s.2) n 0 (a3, a4) (by omega) ⟨zf_r0, zf_i0⟩ ?_ ?_
  · rintro f ⟨b3, b4⟩ ⟨h3, h4⟩
    exact pk_le (F + n) (F + n) (fun _ => G b3 b4 h3 h4) (fun z => absurd z (by omega)) (nI_add F n)
  · rintro f i ⟨b3, b4⟩ hi ⟨h3, h4⟩ hw
    exact pk_le (F + n) (F + i) (fun z => absurd z (by omega)) (fun _ => ⟨pk_in (F + i) 80 (by omega), nm_e (zw_cl (by omega) (fun b hb => nm_r (nI_1 (F + i)) (hw (b, _) ⟨zf_rs h3 hb, zf_is h4 (nI_clamp (by omega)) rfl⟩)))⟩) (nI_add F n)
theorem zw_op {post : Int32 → St1 → Prop} {H n : Nat} {z : Nat → Nat} {p : Int32} (hp : p = nI n) (hH : H < 8) (hn : n ≤ 2) (hL : zi_L H z a1 a2 a3 a4) (hz : zs_pr z H ≤ 64)
    (G : ∀ b3 b4, zf_r (zs_sm z H) (fun _ _ => 0) a3 n b3 → zf_i (zs_sm z H) (fun _ => 0) a4 n b4 → post (nI (zs_sm z H)) (nI (H + 1), fm, fe, fj, fs, ff, fl, upd a1 H (nI (zs_sm z H)), upd a2 H (nI n), b3, b4, a5, a6, a7, a8, a9)) :
    wpX_open post (nI H, fm, fe, fj, fs, ff, fl, a1, a2, a3, a4, a5, a6, a7, a8, a9) p := by
  subst hp
  have sz := zs_bd H (fun q hq => (hL q hq).1)
  cases H with
  | zero => exact br_t (show nI 0 ≤ 0 by decide) (zw_o33 (F := 0) (by omega) (by omega) G)
  | succ H =>
    have e : nI (H + 1) - 1 = nI H := nI_pred H
    have ec : (nI (H + 1) - 1).toNatClampNeg = H := pk_cl H e
    have ef : a1 (nI (H + 1) - 1).toNatClampNeg + a2 (nI (H + 1) - 1).toNatClampNeg = nI (zs_sm z (H + 1)) := by
      rw [ec, (hL H (by omega)).2.1, (hL H (by omega)).2.2.1, nI_add]
      rfl
    exact pk_le (H + 1) 0 (fun z => absurd z (by omega)) (fun _ => ⟨pk_in H 8 (by omega) e, pk_in H 8 (by omega) e, nm_r ef (zw_o33 (by omega) (by omega) G)⟩)
theorem zw_ev {post : Int32 → St1 → Prop} {H E k : Nat} {z : Nat → Nat} (hk : k < 4) (B : zi_B H E z a1 a2 a3 a4 a6) (K : zi_K fs ff fl a7 a8 a9 post) :
    wpX_event post (nI H, fm, nI E, fj, fs, ff, fl, a1, a2, a3, a4, a5, a6, a7, a8, a9) (nI k) := by
  have B' := B
  obtain ⟨hH, hE, hp, hL, c4, c6⟩ := B'
  have p2 := zi_pw hE
  have sz := zs_bd H (fun q hq => (hL q hq).1)
  refine br_f (nI_pos (by omega)) (br_t (nI_le (b := 3) (by omega) (by decide)) (br_c (fun _ => K _ H E z _ _ _ _ _ _ _ _ B) (fun _ => pk_eq H 8 (fun _ => K _ H E z _ _ _ _ _ _ _ _ B) (fun h8 => pk_eq E 6 (fun _ => K _ H E z _ _ _ _ _ _ _ _ B) (fun h6 => zw_op (n := 2) rfl (by omega) (by omega) hL (by omega) (fun b3 b4 h3 h4 => ?_))))))
  refine ⟨pk_in (zs_sm z H * 4 + k) 320 (by omega) (zn_ix _ k), nm_r (show vp_updL b3 (nI (zs_sm z H) * 4 + nI k).toNatClampNeg 2 = vp_updL b3 (zs_sm z H * 4 + k) 2 by rw [pk_cl _ (zn_ix _ k)]) ⟨pk_in (zs_sm z H + 1) 80 (by omega) (nI_1 _), nm_r (show upd b4 (nI (zs_sm z H) + 1).toNatClampNeg 1 = upd b4 (zs_sm z H + 1) 1 by rw [pk_cl _ (nI_1 _)]) (nm_r (nI_1 E) (nm_e (K _ (H + 1) (E + 1) (zs_up z H 2) _ _ _ _ _ _ _ _ ?_)))⟩⟩
  refine zi_top (by omega) (by omega) (by decide) ?_ hL (fun i hi => pk_un (by omega)) pk_us (fun i hi => pk_un (by omega)) pk_us (fun q hq => ?_) (fun q hq => ?_) (zm_ev h3 hk) (zf_bu (zf_bi h4 c4 (fun _ _ => Or.inl rfl)) (Or.inr rfl)) c6
  · rw [Nat.pow_succ]
    exact Nat.mul_le_mul_right 2 hp
  · rw [pk_uLn (by omega), h3.2 q (by omega)]
  · rw [pk_un (by omega), h4.2 q (by omega)]
theorem zw_evp {post : Int32 → St1 → Prop} {H E k : Nat} {z : Nat → Nat} {p : Int32} (hp : p = nI k) (hk : k < 4) (B : zi_B H E z a1 a2 a3 a4 a6) (K : zi_K fs ff fl a7 a8 a9 post) :
    wpX_event post (nI H, fm, nI E, fj, fs, ff, fl, a1, a2, a3, a4, a5, a6, a7, a8, a9) p := by
  subst hp
  exact zw_ev hk B K
theorem zw_sk {post : Int32 → St1 → Prop} {H E : Nat} {z : Nat → Nat} (B : zi_B H E z a1 a2 a3 a4 a6) (K : zi_K fs ff fl a7 a8 a9 post) :
    wpX_skip post (nI H, fm, nI E, fj, fs, ff, fl, a1, a2, a3, a4, a5, a6, a7, a8, a9) := by
  have B' := B
  obtain ⟨hH, hE, hp, hL, c4, c6⟩ := B'
  have p2 := zi_pw hE
  have sz := zs_bd H (fun q hq => (hL q hq).1)
  refine br_c (fun _ => K _ H E z _ _ _ _ _ _ _ _ B) (fun _ => pk_eq H 8 (fun _ => K _ H E z _ _ _ _ _ _ _ _ B) (fun h8 => zw_op (n := 1) rfl (by omega) (by omega) hL (by omega) (fun b3 b4 h3 h4 => ?_)))
  refine ⟨pk_in (zs_sm z H) 80 (by omega), nm_r (show upd b4 (nI (zs_sm z H)).toNatClampNeg 1 = upd b4 (zs_sm z H) 1 by rw [nI_clamp (by omega)]) (nm_e (K _ (H + 1) E (zs_up z H 1) _ _ _ _ _ _ _ _ ?_))⟩
  refine zi_top (by omega) (by omega) (by decide) ?_ hL (fun i hi => pk_un (by omega)) pk_us (fun i hi => pk_un (by omega)) pk_us (fun q hq => ?_) (fun q hq => ?_) (zm_sk h3) (zf_bu (zf_bi h4 c4 (fun _ _ => Or.inl rfl)) (Or.inr rfl)) c6
  · rw [Nat.mul_one]
    exact hp
  · rw [h3.2 q (by omega)]
  · rw [pk_un (by omega), h4.2 q (by omega)]
theorem zw_opt {post : Int32 → St1 → Prop} {H E : Nat} {z : Nat → Nat} (B : zi_B H E z a1 a2 a3 a4 a6) (K : zi_K fs ff fl a7 a8 a9 post) :
    wpX_option post (nI H, fm, nI E, fj, fs, ff, fl, a1, a2, a3, a4, a5, a6, a7, a8, a9) := by
  unfold wpX_option
  refine zw_ref (c := 1) rfl (by omega) B.1 (fun h1 => br_t (by decide) ?_) (fun r hr => br_f hr (K _ H E z _ _ _ _ _ _ _ _ B))
  obtain ⟨H, rfl⟩ : ∃ c, H = c + 1 := ⟨H - 1, by omega⟩
  obtain ⟨hH, hE, hp, hL, c4, c6⟩ := B
  have p2 := zi_pw hE
  have sz := zs_bd (H + 1) (fun q hq => (hL q hq).1)
  obtain ⟨g1, g2, g3, g4⟩ := hL H (by omega)
  have e : nI (H + 1) - 1 = nI H := nI_pred H
  have ec : (nI (H + 1) - 1).toNatClampNeg = H := pk_cl H e
  have ex : a1 (nI (H + 1) - 1).toNatClampNeg = nI (zs_sm z H) := by rw [ec, g2]
  have hs : zs_sm z (H + 1) = zs_sm z H + z H := rfl
  refine ⟨pk_in H 8 (by omega) e, pk_in (zs_sm z H) 80 (by omega) ex, nm_r (show upd a4 (a1 (nI (H + 1) - 1).toNatClampNeg).toNatClampNeg 1 = upd a4 (zs_sm z H) 1 by rw [pk_cl _ ex]) (nm_e (K _ (H + 1) E (zs_up z H (z H)) _ _ _ _ _ _ _ _ ?_))⟩
  refine zi_top (by omega) hE g1 hp (fun i hi => hL i (by omega)) (fun _ _ => rfl) g2 (fun _ _ => rfl) g3 (fun _ _ => rfl) (fun q hq => pk_un (by omega)) (zm_cg g4 (fun _ _ _ _ => rfl) (fun s hs g => ?_)) (zf_bu c4 (Or.inr rfl)) c6
  show ¬ upd a4 (zs_sm z H) 1 (zs_sm z H + s) = 0
  by_cases c : s = 0
  · rw [c, Nat.add_zero, pk_us]; decide
  · rw [pk_un (by omega)]; exact g
theorem zw_loop {post : Int32 → St1 → Prop} {H E : Nat} {z : Nat → Nat} (B : zi_B H E z a1 a2 a3 a4 a6) (K : zi_K fs ff fl a7 a8 a9 post) :
    wpX_loop post (nI H, fm, nI E, fj, fs, ff, fl, a1, a2, a3, a4, a5, a6, a7, a8, a9) := by
  unfold wpX_loop
  refine zw_ref (c := 1) rfl (by omega) B.1 (fun h1 => br_t (by decide) ?_) (fun r hr => br_f hr (K _ H E z _ _ _ _ _ _ _ _ B))
  obtain ⟨H, rfl⟩ : ∃ c, H = c + 1 := ⟨H - 1, by omega⟩
  obtain ⟨hH, hE, hp, hL, c4, c6⟩ := B
  have p2 := zi_pw hE
  have sz := zs_bd (H + 1) (fun q hq => (hL q hq).1)
  obtain ⟨g1, g2, g3, g4⟩ := hL H (by omega)
  have e : nI (H + 1) - 1 = nI H := nI_pred H
  have ec : (nI (H + 1) - 1).toNatClampNeg = H := pk_cl H e
  have ex : a1 (nI (H + 1) - 1).toNatClampNeg = nI (zs_sm z H) := by rw [ec, g2]
  have ey : a2 (nI (H + 1) - 1).toNatClampNeg = nI (z H) := by rw [ec, g3]
  have hs : zs_sm z (H + 1) = zs_sm z H + z H := rfl
  refine ⟨pk_in H 8 (by omega) e, nm_r ex ?_⟩
  refine pk_loop (fun f i b => wX_loop_26 post (nI (zs_sm z H)) f (nI (i + 1)) (nI (H + 1)) fm (nI E) fj fs ff fl a1 a2 b a4 a5 a6 a7 a8 a9)
    (fun i b => zm_g (z H) (fun s k => b ((zs_sm z H + s) * 4 + k)) (fun s => a4 (zs_sm z H + s)) ∧ ∀ q, q < zs_sm z H * 4 → b q = a3 q) (z H - 1) 0 a3 (by omega) ⟨g4, fun _ _ => rfl⟩ ?_ ?_
  · rintro f b ⟨hg, hb⟩
    refine ⟨pk_in H 8 (by omega) e, pk_le (z H) (z H - 1 + 1) (fun _ => ⟨pk_in (zs_sm z H) 80 (by omega), nm_r (show upd a4 (nI (zs_sm z H)).toNatClampNeg 1 = upd a4 (zs_sm z H) 1 by rw [nI_clamp (by omega)]) (nm_e (K _ (H + 1) E (zs_up z H (z H)) _ _ _ _ _ _ _ _ ?_))⟩) (fun z => absurd z (by omega)) ey⟩
    refine zi_top (by omega) hE g1 hp (fun i hi => hL i (by omega)) (fun _ _ => rfl) g2 (fun _ _ => rfl) g3 hb (fun q hq => pk_un (by omega)) (zm_cg hg (fun _ _ _ _ => rfl) (fun s hs g => ?_)) (zf_bu c4 (Or.inr rfl)) c6
    show ¬ upd a4 (zs_sm z H) 1 (zs_sm z H + s) = 0
    by_cases c : s = 0
    · rw [c, Nat.add_zero, pk_us]; decide
    · rw [pk_un (by omega)]; exact g
  · rintro f i b hi ⟨hg, hb⟩ hw
    have e1 : nI (zs_sm z H) + nI (i + 1) = nI (zs_sm z H + (i + 1)) := nI_add _ _
    refine ⟨pk_in H 8 (by omega) e, pk_le (z H) (i + 1) (fun z => absurd z (by omega)) (fun _ => ⟨pk_in (zs_sm z H + (i + 1)) 80 (by omega) e1, br_c (fun _ => nm_r (nI_1 (i + 1)) (hw b ⟨hg, hb⟩)) (fun _ => zw_ag rfl e1 (by omega) (by omega) (by omega) (fun b' h' => nm_r (nI_1 (i + 1)) (hw b' ⟨?_, ?_⟩)))⟩) ey⟩
    · have row : ∀ s k, s < z H → k < 4 → b' ((zs_sm z H + s) * 4 + k) = b ((zs_sm z H + s) * 4 + k) ∨ b' ((zs_sm z H + s) * 4 + k) = b ((zs_sm z H + s) * 4 + k) ||| b ((zs_sm z H + 0) * 4 + k) := by
        intro s k hs hk
        by_cases c : s = i + 1
        · subst c
          exact Or.inr (h'.1 k hk)
        · exact Or.inl (h'.2 _ (by omega))
      refine zm_mn hg (fun s k t hs hk g => ?_) (fun s k t hs hk g => ?_) (fun s hs g => g)
      · rcases row s k hs hk with r | r
        · rw [r]; exact g
        · rw [r, zb_orT]; exact Or.inl g
      · rcases row s k hs hk with r | r
        · rw [r] at g; exact hg.1 s k t hs hk g
        · rw [r, zb_orT] at g
          rcases g with g | g
          · exact hg.1 s k t hs hk g
          · exact hg.1 0 k t (by omega) hk g
    · intro q hq
      rw [h'.2 q (by omega), hb q hq]
theorem zw_fin {post : Int32 → St1 → Prop} {H E J : Nat} {z : Nat → Nat} {o6 : Nat → Int32} (B : zi_B (H + 2) E z a1 a2 a3 a4 o6) (hJ1 : 1 ≤ J) (hJ : J ≤ z H * z (H + 1))
    (hg : zm_g J (fun s k => a5 (s * 4 + k)) a6) (c6 : zf_b a6)
    (K : ∀ r m' b2 b3 b4 z', zi_B (H + 1) E z' a1 b2 b3 b4 a6 → post r (nI (H + 1), m', fe, nI J, fs, ff, fl, a1, b2, b3, b4, a5, a6, a7, a8, a9)) :
    wpX_settle post (nI (H + 2), fm, fe, nI J, fs, ff, fl, a1, a2, a3, a4, a5, a6, a7, a8, a9) := by
  obtain ⟨hH, hE, hp, hL, c4, _⟩ := B
  have p2 := zi_pw hE
  have hz0 := zs_pos H (fun q hq => (hL q (by omega)).1)
  have pj : zs_pr z H * J ≤ 2 ^ E := by
    refine Nat.le_trans (Nat.mul_le_mul_left _ hJ) ?_
    rw [← Nat.mul_assoc]
    exact hp
  have am := zs_am hz0 hJ1
  have bd := zs_bd H (fun q hq => (hL q (by omega)).1)
  have hJ64 : J ≤ zs_pr z H * J := Nat.le_mul_of_pos_left J hz0
  refine zw_set (x := zs_sm z H) (by omega) (hL H (by omega)).2.1 (by omega) (by omega) (fun b3 b4 h3 h4 => K _ _ _ _ _ _ (zi_top (by omega) hE hJ1 pj (fun i hi => hL i (by omega)) (fun _ _ => rfl) (hL H (by omega)).2.1 (fun i hi => pk_un (by omega)) pk_us (fun q hq => h3.2 q (by omega)) (fun q hq => h4.2 q (by omega)) (zm_cg hg (fun s k hs hk => h3.1 s k hs hk) (fun s hs g => ?_)) (zf_bi h4 c4 (fun s _ => ?_)) c6))
  · show ¬ b4 (zs_sm z H + s) = 0
    have t : b4 (zs_sm z H + s) = vp_nar .boolean (a6 s) := h4.1 s hs
    rw [t, zf_nr (c6 s)]
    exact g
  · rw [zf_nr (c6 s)]
    exact c6 s
end
end
section
/-! ===== two machines joined: the rows that seq, choice and both write ===== -/
def zr_s (a3 : Nat → Int64) (a4 : Nat → Int32) (x y up s k : Nat) : Int64 :=
  if a4 (x + s) = 0 then a3 ((x + s) * 4 + k) <<< ((nI 0).toInt64 &&& 63)
  else (a3 ((x + s) * 4 + k) <<< ((nI 0).toInt64 &&& 63)) ||| (a3 (y * 4 + k) <<< ((nI up).toInt64 &&& 63))
def zr_e (a4 : Nat → Int32) (x y s : Nat) : Int32 := if a4 (x + s) = 0 then 0 else if a4 y = 0 then 0 else 1
def zr_t (a3 : Nat → Int64) (y up s k : Nat) : Int64 := a3 ((y + 1 + s) * 4 + k) <<< ((nI up).toInt64 &&& 63)
def zr_u (a4 : Nat → Int32) (y s : Nat) : Int32 := vp_nar .boolean (a4 (y + 1 + s))
def zr_c (a3 : Nat → Int64) (x s k : Nat) : Int64 := a3 ((x + s) * 4 + k) <<< ((nI 0).toInt64 &&& 63)
def zr_d (a4 : Nat → Int32) (x s : Nat) : Int32 := vp_nar .boolean (a4 (x + s))
theorem zr_e01 (a4 : Nat → Int32) (x y s : Nat) : zr_e a4 x y s = 0 ∨ zr_e a4 x y s = 1 := by
  unfold zr_e
  split
  · exact Or.inl rfl
  · split
    · exact Or.inl rfl
    · exact Or.inr rfl
section
variable {x y up ny : Nat} {a3 a5 b5 c5 : Nat → Int64} {a4 a6 b6 c6 : Nat → Int32}
theorem zj_5 (h : zf_r (up + 1) (zr_t a3 y up) b5 (ny - 1) c5) {s k : Nat} (h1 : 1 ≤ s) (hs : s < ny) (hk : k < 4) :
    c5 ((up + s) * 4 + k) = a3 ((y + s) * 4 + k) <<< ((nI up).toInt64 &&& 63) := by
  have t := h.1 (s - 1) k (by omega) hk
  unfold zr_t at t
  rw [show up + 1 + (s - 1) = up + s by omega, show y + 1 + (s - 1) = y + s by omega] at t
  exact t
theorem zj_6 (h : zf_i (up + 1) (zr_u a4 y) b6 (ny - 1) c6) (c4 : zf_b a4) {s : Nat} (h1 : 1 ≤ s) (hs : s < ny) :
    c6 (up + s) = a4 (y + s) := by
  have t := h.1 (s - 1) (by omega)
  unfold zr_u at t
  rw [show up + 1 + (s - 1) = up + s by omega, show y + 1 + (s - 1) = y + s by omega, zf_nr (c4 _)] at t
  exact t
theorem zj_b (h : zf_i (up + 1) (zr_u a4 y) b6 (ny - 1) c6) (c4 : zf_b a4) (i6 : zf_b b6) : zf_b c6 :=
  zf_bi h i6 (fun s _ => by unfold zr_u; rw [zf_nr (c4 _)]; exact c4 _)
theorem zj_seq (hA : zm_g (up + 1) (fun s k => a3 ((x + s) * 4 + k)) (fun s => a4 (x + s))) (hB : zm_g ny (fun s k => a3 ((y + s) * 4 + k)) (fun s => a4 (y + s)))
    (h1 : 1 ≤ ny) (h2 : up + ny ≤ 64) (c4 : zf_b a4) (h5 : zf_r 0 (zr_s a3 a4 x y up) a5 (up + 1) b5) (h6 : zf_i 0 (zr_e a4 x y) a6 (up + 1) b6)
    (h5' : zf_r (up + 1) (zr_t a3 y up) b5 (ny - 1) c5) (h6' : zf_i (up + 1) (zr_u a4 y) b6 (ny - 1) c6) : zm_g (up + ny) (fun s k => c5 (s * 4 + k)) c6 := by
  refine zm_seq hA hB h1 h2 (fun s k t hs hk => ?_) (fun s k t g1 hs hk => ?_) (fun s hs g1 g2 => ?_) (fun s g1 hs g2 => ?_)
  · skip
    have e := h5.1 s k hs hk
    rw [Nat.zero_add] at e
    rw [h5'.2 _ (by omega), e, Nat.add_zero]
    unfold zr_s
    split
    · rw [zb_sh0]
      constructor
      · exact Or.inl
      · rintro (g | ⟨g, _⟩)
        · exact g
        · exact absurd ‹_› g
    · rename_i g
      rw [zb_orT, zb_sh0, zb_shT (by omega)]
      constructor
      · rintro (g' | g')
        · exact Or.inl g'
        · exact Or.inr ⟨g, g'⟩
      · rintro (g' | ⟨_, g'⟩)
        · exact Or.inl g'
        · exact Or.inr g'
  · skip
    rw [zj_5 h5' g1 hs hk, zb_shT (by omega)]
  · have e := h6.1 s hs
    rw [Nat.zero_add] at e
    rw [h6'.2 s (by omega), e]
    unfold zr_e
    have g2' : ¬ a4 y = 0 := g2
    rw [if_neg g1, if_neg g2']
    decide
  · rw [zj_6 h6' c4 g1 hs]
    exact g2
theorem zj_cho {d5 : Nat → Int64} {v : Int32} (hA : zm_g (up + 1) (fun s k => a3 ((x + s) * 4 + k)) (fun s => a4 (x + s))) (hB : zm_g ny (fun s k => a3 ((y + s) * 4 + k)) (fun s => a4 (y + s)))
    (h1 : 1 ≤ ny) (h2 : up + ny ≤ 64) (c4 : zf_b a4) (h5 : zf_r 0 (zr_c a3 x) a5 (up + 1) b5) (h6 : zf_i 0 (zr_d a4 x) a6 (up + 1) b6)
    (hd : zf_4 0 (fun k => b5 (0 * 4 + k) ||| (a3 (y * 4 + k) <<< ((nI up).toInt64 &&& 63))) b5 4 d5) (hv : v = 0 ∨ v = 1) (hv' : ¬ a4 x = 0 → ¬ v = 0)
    (h5' : zf_r (up + 1) (zr_t a3 y up) d5 (ny - 1) c5) (h6' : zf_i (up + 1) (zr_u a4 y) (upd b6 0 (vp_nar .boolean v)) (ny - 1) c6) : zm_g (up + ny) (fun s k => c5 (s * 4 + k)) c6 := by
  refine zm_cho hA hB h1 h2 (fun s k t hs hk => ?_) (fun s k t g1 hs hk => ?_) (fun s hs g1 => ?_) (fun s g1 hs g2 => ?_)
  · skip
    have e : b5 ((0 + s) * 4 + k) = a3 ((x + s) * 4 + k) <<< ((nI 0).toInt64 &&& 63) := h5.1 s k hs hk
    rw [Nat.zero_add] at e
    rw [h5'.2 _ (by omega), Nat.add_zero]
    by_cases c : s = 0
    · subst c
      have e2 : d5 (0 * 4 + k) = b5 (0 * 4 + k) ||| (a3 (y * 4 + k) <<< ((nI up).toInt64 &&& 63)) := hd.1 k hk
      rw [e2, e, zb_orT, zb_sh0, zb_shT (by omega)]
      constructor
      · rintro (g' | g')
        · exact Or.inl g'
        · exact Or.inr ⟨rfl, g'⟩
      · rintro (g' | ⟨_, g'⟩)
        · exact Or.inl g'
        · exact Or.inr g'
    · rw [hd.2 _ (by omega), e, zb_sh0]
      constructor
      · exact Or.inl
      · rintro (g | ⟨g, _⟩)
        · exact g
        · exact absurd g c
  · skip
    rw [zj_5 h5' g1 hs hk, zb_shT (by omega)]
  · rw [h6'.2 s (by omega)]
    by_cases c : s = 0
    · subst c
      rw [pk_us, zf_nr hv]
      exact hv' g1
    · have e : b6 (0 + s) = vp_nar .boolean (a4 (x + s)) := h6.1 s hs
      rw [Nat.zero_add, zf_nr (c4 _)] at e
      rw [pk_un c, e]
      exact g1
  · rw [zj_6 h6' c4 g1 hs]
    exact g2
end
/-! both -/
def zr_b (a3 : Nat → Int64) (x y ny s t k : Nat) (v : Int64) : Prop :=
  ∀ p, zb_t v p = true ↔ (∃ q, zb_t (a3 ((x + s) * 4 + k)) q = true ∧ p = q * ny + t) ∨ (∃ q, zb_t (a3 ((y + t) * 4 + k)) q = true ∧ p = s * ny + q)
def zr_I (a3 : Nat → Int64) (a4 : Nat → Int32) (x y nx ny w : Nat) (b5 : Nat → Int64) (b6 : Nat → Int32) : Prop :=
  (∀ s t, s < nx → t < ny → s * ny + t < w → (∀ k, k < 4 → zr_b a3 x y ny s t k (b5 ((s * ny + t) * 4 + k))) ∧ (¬ a4 (x + s) = 0 → ¬ a4 (y + t) = 0 → ¬ b6 (s * ny + t) = 0)) ∧ zf_b b6
theorem zr_Is {a3 b5 c5 : Nat → Int64} {a4 b6 : Nat → Int32} {x y nx ny s t : Nat} {v : Int32} (h : zr_I a3 a4 x y nx ny (s * ny + t) b5 b6) (ht : t < ny)
    (h5 : zf_p (s * ny + t) (fun k => zr_b a3 x y ny s t k) b5 4 c5) (hv : v = 0 ∨ v = 1) (hv' : ¬ a4 (x + s) = 0 → ¬ a4 (y + t) = 0 → ¬ v = 0) :
    zr_I a3 a4 x y nx ny (s * ny + t + 1) c5 (upd b6 (s * ny + t) v) := by
  refine ⟨fun s' t' hs' ht' hw => ?_, zf_bu h.2 hv⟩
  by_cases c : s' * ny + t' = s * ny + t
  · have e1 : s' = s := by rw [← (zm_dv (s := s') ht').1, c, (zm_dv ht).1]
    have e2 : t' = t := by rw [← (zm_dv (s := s') ht').2, c, (zm_dv ht).2]
    subst e1 e2
    exact ⟨fun k hk => h5.1 k hk, fun g1 g2 => by rw [pk_us]; exact hv' g1 g2⟩
  · obtain ⟨i1, i2⟩ := h.1 s' t' hs' ht' (by omega)
    exact ⟨fun k hk => by rw [h5.2 _ (by omega)]; exact i1 k hk, fun g1 g2 => by rw [pk_un c]; exact i2 g1 g2⟩
theorem zj_bo {a3 b5 : Nat → Int64} {a4 b6 : Nat → Int32} {x y nx ny : Nat} (hA : zm_g nx (fun s k => a3 ((x + s) * 4 + k)) (fun s => a4 (x + s))) (hB : zm_g ny (fun s k => a3 ((y + s) * 4 + k)) (fun s => a4 (y + s)))
    (h1 : 1 ≤ ny) (h : zr_I a3 a4 x y nx ny (nx * ny) b5 b6) : zm_g (nx * ny) (fun s k => b5 (s * 4 + k)) b6 :=
  zm_bo hA hB h1 (fun s t k i hs ht hk => (h.1 s t hs ht (zn_lin hs ht)).1 k hk i) (fun s t hs ht g1 g2 => (h.1 s t hs ht (zn_lin hs ht)).2 g1 g2)
end
section
/-! ===== seq, choice, both: the walks ===== -/
section
variable {fh fm fe fj fs fl : Int32} {ff : Int64} {a1 a2 a4 a6 a8 : Nat → Int32} {a3 a5 a7 a9 : Nat → Int64}
theorem zw_s108 {post : Int32 → St1 → Prop} {J : Int32 → Int32 → Int32 → Int32 → Int32 → Int32 → Int64 → Int32 → (Nat → Int32) → (Nat → Int32) → (Nat → Int64) → (Nat → Int32) → (Nat → Int64) → (Nat → Int32) → (Nat → Int64) → (Nat → Int32) → (Nat → Int64) → Prop} {x y up s : Nat} {v : Int32} (hx : x + s < 80) (hy : y < 80) (hs : s < 64)
    (G : ∀ b, zf_4 (0 + s) (zr_s a3 a4 x y up s) a5 4 b → J (nI (s + 1)) fh fm fe fj fs ff fl a1 a2 a3 a4 b (upd a6 s (vp_nar .boolean v)) a7 a8 a9) :
    wX_seq_108 post J (nI x) (nI y) (nI up) (nI s) v (nI s) fh fm fe fj fs ff fl a1 a2 a3 a4 a5 a6 a7 a8 a9 := by
  have e1 : nI x + nI s = nI (x + s) := nI_add x s
  refine ⟨pk_in s 64 hs, nm_r (show upd a6 (nI s).toNatClampNeg (vp_nar .boolean v) = upd a6 s (vp_nar .boolean v) by rw [nI_clamp (by omega)]) (zw_cp (c := 0) e1 rfl rfl hx hs (fun b hb => ⟨pk_in (x + s) 80 hx e1, br_c (fun g => nm_r (nI_1 s) (G b ?_)) (fun g => zw_ad rfl rfl rfl hy hs (fun b' hb' => nm_r (nI_1 s) (G b' ?_)))⟩))⟩
  · rw [pk_cl _ e1] at g
    refine ⟨fun k hk => ?_, fun q hq => hb.2 q (by omega)⟩
    unfold zr_s
    rw [if_pos g, Nat.zero_add]
    exact hb.1 k hk
  · rw [pk_cl _ e1] at g
    refine ⟨fun k hk => ?_, fun q hq => by rw [hb'.2 q (by omega), hb.2 q (by omega)]⟩
    have t1 : b' (s * 4 + k) = b (s * 4 + k) ||| (a3 (y * 4 + k) <<< ((nI up).toInt64 &&& 63)) := hb'.1 k hk
    have t2 : b (s * 4 + k) = a3 ((x + s) * 4 + k) <<< ((nI 0).toInt64 &&& 63) := hb.1 k hk
    unfold zr_s
    rw [if_neg g, Nat.zero_add, t1, t2]
theorem zw_seq {post : Int32 → St1 → Prop} {H E : Nat} {z : Nat → Nat} (B : zi_B H E z a1 a2 a3 a4 a6) (K : zi_K fs ff fl a7 a8 a9 post) :
    wpX_seq post (nI H, fm, nI E, fj, fs, ff, fl, a1, a2, a3, a4, a5, a6, a7, a8, a9) := by
  unfold wpX_seq
  refine zw_ref (c := 2) rfl (by omega) B.1 (fun h1 => br_t (by decide) ?_) (fun r hr => br_f hr (K _ H E z _ _ _ _ _ _ _ _ B))
  obtain ⟨H, rfl⟩ : ∃ c, H = c + 2 := ⟨H - 2, by omega⟩
  have B' := B
  obtain ⟨hH, hE, hp, hL, c4, c6⟩ := B'
  have p2 := zi_pw hE
  obtain ⟨g1, g2, g3, g4⟩ := hL H (by omega)
  obtain ⟨k1, k2, k3, k4⟩ := hL (H + 1) (by omega)
  have hz0 := zs_pos H (fun q hq => (hL q (by omega)).1)
  have bd := zs_bd (H + 2) (fun q hq => (hL q hq).1)
  have hs2 : zs_sm z (H + 2) = zs_sm z (H + 1) + z (H + 1) := rfl
  have hs1 : zs_sm z (H + 1) = zs_sm z H + z H := rfl
  have hpr : z H * z (H + 1) ≤ zs_pr z (H + 2) := by
    show _ ≤ zs_pr z H * z H * z (H + 1)
    rw [Nat.mul_assoc]
    exact Nat.le_mul_of_pos_left _ hz0
  have am := zs_am g1 k1
  obtain ⟨up, hup⟩ : ∃ c, z H = c + 1 := ⟨z H - 1, by omega⟩
  obtain ⟨x, hx⟩ : ∃ c, zs_sm z H = c := ⟨_, rfl⟩
  obtain ⟨y, hy⟩ : ∃ c, zs_sm z (H + 1) = c := ⟨_, rfl⟩
  obtain ⟨ny, hny⟩ : ∃ c, z (H + 1) = c := ⟨_, rfl⟩
  rw [hup, hx] at g4
  rw [hy, hny] at k4
  rw [hx] at g2
  rw [hup] at g3
  rw [hy] at k2
  rw [hny] at k3
  have e2 : nI (H + 2) - 2 = nI H := pk_sub (a := H + 2) (b := 2) (by omega)
  have e1 : nI (H + 2) - 1 = nI (H + 1) := nI_pred (H + 1)
  have ec2 : (nI (H + 2) - 2).toNatClampNeg = H := pk_cl H e2
  have ec1 : (nI (H + 2) - 1).toNatClampNeg = H + 1 := pk_cl (H + 1) e1
  refine ⟨pk_in H 8 (by omega) e2, nm_r (show a1 (nI (H + 2) - 2).toNatClampNeg = nI x by rw [ec2, g2]) ⟨pk_in (H + 1) 8 (by omega) e1, nm_r (show a1 (nI (H + 2) - 1).toNatClampNeg = nI y by rw [ec1, k2]) ⟨pk_in H 8 (by omega) e2, nm_r (show a2 (nI (H + 2) - 2).toNatClampNeg - 1 = nI up by rw [ec2, g3, nI_pred]) ⟨pk_in H 8 (by omega) e2, nm_r (show a2 (nI (H + 2) - 2).toNatClampNeg = nI (up + 1) by rw [ec2, g3]) ?_⟩⟩⟩⟩
  refine pk_loop (σ := (Nat → Int64) × (Nat → Int32)) (fun f i s => wX_seq_69 post (nI x) (nI y) (nI up) f (nI i) (nI (H + 2)) fm (nI E) (nI (up + 1)) fs ff fl a1 a2 a3 a4 s.1 s.2 a7 a8 a9)
    (fun i s => zf_r 0 (zr_s a3 a4 x y up) a5 i s.1 ∧ zf_i 0 (zr_e a4 x y) a6 i s.2) (up + 1) 0 (a5, a6) (by omega) ⟨zf_r0, zf_i0⟩ ?_ ?_
  · rintro f ⟨b5, b6⟩ ⟨h5, h6⟩
    have h5 : zf_r 0 (zr_s a3 a4 x y up) a5 (up + 1) b5 := h5
    have h6 : zf_i 0 (zr_e a4 x y) a6 (up + 1) b6 := h6
    refine pk_lt up (up + 1) (fun _ => zw_tail (H := H + 1) (ny := ny) (by omega) k3 (by omega) (by omega) (by omega) (fun c5 c6' h5' h6' => ?_)) (fun z => absurd z (by omega))
    exact zw_fin B (by omega) (by omega) (zj_seq g4 k4 (by omega) (by omega) c4 h5 h6 h5' h6') (zj_b h6' c4 (zf_bi h6 c6 (fun s _ => zr_e01 a4 x y s))) (fun r m' b2 b3 b4 z' B' => K r (H + 1) E z' m' _ a1 b2 b3 b4 _ _ B')
  · rintro f i ⟨b5, b6⟩ hi ⟨h5, h6⟩ hw
    have h5 : zf_r 0 (zr_s a3 a4 x y up) a5 i b5 := h5
    have h6 : zf_i 0 (zr_e a4 x y) a6 i b6 := h6
    have e : nI x + nI i = nI (x + i) := nI_add x i
    refine pk_lt up i (fun z => absurd z (by omega)) (fun _ => ⟨pk_in (x + i) 80 (by omega) e, br_c (fun g => zw_s108 (by omega) (by omega) (by omega) (fun b hb => hw (b, _) ⟨zf_rs h5 hb, zf_is h6 (Nat.zero_add i).symm ?_⟩)) (fun g => ⟨pk_in y 80 (by omega), br_c (fun g' => zw_s108 (by omega) (by omega) (by omega) (fun b hb => hw (b, _) ⟨zf_rs h5 hb, zf_is h6 (Nat.zero_add i).symm ?_⟩)) (fun g' => zw_s108 (by omega) (by omega) (by omega) (fun b hb => hw (b, _) ⟨zf_rs h5 hb, zf_is h6 (Nat.zero_add i).symm ?_⟩))⟩)⟩)
    · rw [pk_cl _ e] at g
      rw [zf_nr (Or.inl rfl)]
      unfold zr_e
      rw [if_pos g]
    · rw [pk_cl _ e] at g
      rw [nI_clamp (by omega)] at g'
      rw [zf_nr (Or.inl rfl)]
      unfold zr_e
      rw [if_neg g, if_pos g']
    · rw [pk_cl _ e] at g
      rw [nI_clamp (by omega)] at g'
      rw [zf_nr (Or.inr rfl)]
      unfold zr_e
      rw [if_neg g, if_neg g']
theorem zw_cho {post : Int32 → St1 → Prop} {H E : Nat} {z : Nat → Nat} (B : zi_B H E z a1 a2 a3 a4 a6) (K : zi_K fs ff fl a7 a8 a9 post) :
    wpX_choice post (nI H, fm, nI E, fj, fs, ff, fl, a1, a2, a3, a4, a5, a6, a7, a8, a9) := by
  unfold wpX_choice
  refine zw_ref (c := 2) rfl (by omega) B.1 (fun h1 => br_t (by decide) ?_) (fun r hr => br_f hr (K _ H E z _ _ _ _ _ _ _ _ B))
  obtain ⟨H, rfl⟩ : ∃ c, H = c + 2 := ⟨H - 2, by omega⟩
  have B' := B
  obtain ⟨hH, hE, hp, hL, c4, c6⟩ := B'
  have p2 := zi_pw hE
  obtain ⟨g1, g2, g3, g4⟩ := hL H (by omega)
  obtain ⟨k1, k2, k3, k4⟩ := hL (H + 1) (by omega)
  have hz0 := zs_pos H (fun q hq => (hL q (by omega)).1)
  have bd := zs_bd (H + 2) (fun q hq => (hL q hq).1)
  have hs2 : zs_sm z (H + 2) = zs_sm z (H + 1) + z (H + 1) := rfl
  have hs1 : zs_sm z (H + 1) = zs_sm z H + z H := rfl
  have hpr : z H * z (H + 1) ≤ zs_pr z (H + 2) := by
    show _ ≤ zs_pr z H * z H * z (H + 1)
    rw [Nat.mul_assoc]
    exact Nat.le_mul_of_pos_left _ hz0
  have am := zs_am g1 k1
  obtain ⟨up, hup⟩ : ∃ c, z H = c + 1 := ⟨z H - 1, by omega⟩
  obtain ⟨x, hx⟩ : ∃ c, zs_sm z H = c := ⟨_, rfl⟩
  obtain ⟨y, hy⟩ : ∃ c, zs_sm z (H + 1) = c := ⟨_, rfl⟩
  obtain ⟨ny, hny⟩ : ∃ c, z (H + 1) = c := ⟨_, rfl⟩
  rw [hup, hx] at g4
  rw [hy, hny] at k4
  rw [hx] at g2
  rw [hup] at g3
  rw [hy] at k2
  rw [hny] at k3
  have e2 : nI (H + 2) - 2 = nI H := pk_sub (a := H + 2) (b := 2) (by omega)
  have e1 : nI (H + 2) - 1 = nI (H + 1) := nI_pred (H + 1)
  have ec2 : (nI (H + 2) - 2).toNatClampNeg = H := pk_cl H e2
  have ec1 : (nI (H + 2) - 1).toNatClampNeg = H + 1 := pk_cl (H + 1) e1
  refine ⟨pk_in H 8 (by omega) e2, nm_r (show a1 (nI (H + 2) - 2).toNatClampNeg = nI x by rw [ec2, g2]) ⟨pk_in (H + 1) 8 (by omega) e1, nm_r (show a1 (nI (H + 2) - 1).toNatClampNeg = nI y by rw [ec1, k2]) ⟨pk_in H 8 (by omega) e2, nm_r (show a2 (nI (H + 2) - 2).toNatClampNeg - 1 = nI up by rw [ec2, g3, nI_pred]) ⟨pk_in H 8 (by omega) e2, nm_r (show a2 (nI (H + 2) - 2).toNatClampNeg = nI (up + 1) by rw [ec2, g3]) ?_⟩⟩⟩⟩
  refine pk_loop (σ := (Nat → Int64) × (Nat → Int32)) (fun f i s => wX_choice_69 post (nI x) (nI y) (nI up) f (nI i) (nI (H + 2)) fm (nI E) (nI (up + 1)) fs ff fl a1 a2 a3 a4 s.1 s.2 a7 a8 a9)
    (fun i s => zf_r 0 (zr_c a3 x) a5 i s.1 ∧ zf_i 0 (zr_d a4 x) a6 i s.2) (up + 1) 0 (a5, a6) (by omega) ⟨zf_r0, zf_i0⟩ ?_ ?_
  · rintro f ⟨b5, b6⟩ ⟨h5, h6⟩
    have h5 : zf_r 0 (zr_c a3 x) a5 (up + 1) b5 := h5
    have h6 : zf_i 0 (zr_d a4 x) a6 (up + 1) b6 := h6
    have b6b : zf_b b6 := zf_bi h6 c6 (fun s _ => by unfold zr_d; rw [zf_nr (c4 _)]; exact c4 _)
    have fin : ∀ v : Int32, v = 0 ∨ v = 1 → (¬ a4 x = 0 → ¬ v = 0) → wX_choice_137 post (nI y) (nI up) v 0 (nI (H + 2)) fm (nI E) (nI (up + 1)) fs ff fl a1 a2 a3 a4 b5 b6 a7 a8 a9 := by
      intro v hv hv'
      refine ⟨pk_in 0 64 (by omega), nm_r (show upd b6 (0 : Int32).toNatClampNeg (vp_nar .boolean v) = upd b6 0 (vp_nar .boolean v) from rfl) (zw_ad (y := 0) rfl rfl rfl (by omega) (by omega) (fun d5 hd => zw_tail (H := H + 1) (ny := ny) (by omega) k3 (by omega) (by omega) (by omega) (fun c5 c6' h5' h6' => ?_)))⟩
      exact zw_fin B (by omega) (by omega) (zj_cho g4 k4 (by omega) (by omega) c4 h5 h6 hd hv hv' h5' h6') (zj_b h6' c4 (zf_bu b6b (by rw [zf_nr hv]; exact hv))) (fun r m' b2 b3 b4 z' B' => K r (H + 1) E z' m' _ a1 b2 b3 b4 _ _ B')
    refine pk_lt up (up + 1) (fun _ => ⟨pk_in x 80 (by omega), br_c (fun g => ⟨pk_in y 80 (by omega), br_c (fun g' => fin 0 (Or.inl rfl) ?_) (fun g' => fin 1 (Or.inr rfl) (fun _ => by decide))⟩) (fun g => fin 1 (Or.inr rfl) (fun _ => by decide))⟩) (fun z => absurd z (by omega))
    rw [nI_clamp (by omega)] at g
    exact fun n => absurd g n
  · rintro f i ⟨b5, b6⟩ hi ⟨h5, h6⟩ hw
    have h5 : zf_r 0 (zr_c a3 x) a5 i b5 := h5
    have h6 : zf_i 0 (zr_d a4 x) a6 i b6 := h6
    have e : nI x + nI i = nI (x + i) := nI_add x i
    refine pk_lt up i (fun z => absurd z (by omega)) (fun _ => ⟨pk_in (x + i) 80 (by omega) e, pk_in i 64 (by omega), nm_e (zw_cp (c := 0) e rfl rfl (by omega) (by omega) (fun b hb => nm_r (nI_1 i) (hw (b, _) ⟨zf_rs h5 ?_, zf_is h6 ?_ ?_⟩)))⟩)
    · rw [Nat.zero_add]
      exact hb
    · rw [nI_clamp (by omega), Nat.zero_add]
    · rw [pk_cl _ e]
      rfl
theorem zw_spr {post : Int64 → Prop} {S : Int64} {ny t : Nat} (hS : ∀ q, zb_t S q = true → q * ny + t < 64)
    (G : ∀ r, (∀ p, zb_t r p = true ↔ ∃ q, zb_t S q = true ∧ p = q * ny + t) → post r) :
    wpX_spread post (fh, fm, fe, fj, fs, ff, fl, a1, a2, a3, a4, a5, a6, a7, a8, a9) S (nI ny) (nI t) := by
  refine pk_loop (fun f i x => wX_spread_6 post S (nI ny) (nI t) fh fm fe fj fs ff fl a1 a2 a3 a4 a5 a6 a7 a8 a9 f x (nI i))
    (fun i r => ∀ p, zb_t r p = true ↔ ∃ q, q < i ∧ zb_t S q = true ∧ p = q * ny + t) 64 0 0 (by omega) ?_ ?_ ?_
  · intro p
    rw [zb_0]
    refine ⟨fun g => absurd g (by decide), ?_⟩
    rintro ⟨q, hq, _⟩
    exact absurd hq (by omega)
  · refine fun f r hr => pk_le 64 64 (fun _ => G r (fun p => ?_)) (fun z => absurd z (by omega))
    rw [hr p]
    constructor
    · rintro ⟨q, _, g⟩
      exact ⟨q, g⟩
    · rintro ⟨q, g, g'⟩
      exact ⟨q, zb_lt g, g, g'⟩
  · intro f i r hi hr hw
    have e : nI i * nI ny + nI t = nI (i * ny + t) := by rw [pk_mul, nI_add]
    refine pk_le 64 i (fun z => absurd z (by omega)) (fun _ => ek_if (zb_tst hi S) (fun g => nm_e (nm_r (nI_1 i) (hw _ ?_))) (fun g => nm_r (nI_1 i) (hw r ?_)))
    · rw [e]
      intro p
      rw [zb_orT, hr p, zb_one (hS i g)]
      constructor
      · rintro (⟨q, y, y2⟩ | y)
        · exact ⟨q, by omega, y2⟩
        · exact ⟨i, by omega, g, y⟩
      · rintro ⟨q, y, y2, y3⟩
        by_cases c : q = i
        · subst c; exact Or.inr y3
        · exact Or.inl ⟨q, by omega, y2, y3⟩
    · intro p
      rw [hr p]
      constructor
      · rintro ⟨q, y, y2⟩
        exact ⟨q, by omega, y2⟩
      · rintro ⟨q, y, y2, y3⟩
        by_cases c : q = i
        · subst c; exact absurd y2 g
        · exact ⟨q, by omega, y2, y3⟩
theorem zw_p72 {post : St1 → Prop} {x y nx ny s t : Nat} (hs : s < nx) (ht : t < ny) (hn : nx * ny ≤ 64) (hx : x + nx ≤ 80) (hy : y + ny ≤ 80)
    (rA : ∀ k q, k < 4 → zb_t (a3 ((x + s) * 4 + k)) q = true → q < nx) (rB : ∀ k q, k < 4 → zb_t (a3 ((y + t) * 4 + k)) q = true → q < ny)
    (G : ∀ b, zf_p (s * ny + t) (fun k => zr_b a3 x y ny s t k) a5 4 b → post (fh, fm, fe, fj, fs, ff, fl, a1, a2, a3, a4, b, a6, a7, a8, a9)) :
    ∃ f, wX_pair_72 post (nI s) (nI t) (nI ny) (nI (x + s)) (nI (y + t)) (nI (s * ny + t)) fh fm fe fj fs ff fl f 0 a1 a2 a3 a4 a5 a6 a7 a8 a9 := by
  have lin := zn_lin hs ht
  refine pk_loop (fun f i b => wX_pair_72 post (nI s) (nI t) (nI ny) (nI (x + s)) (nI (y + t)) (nI (s * ny + t)) fh fm fe fj fs ff fl f (nI i) a1 a2 a3 a4 b a6 a7 a8 a9)
    (fun i b => zf_p (s * ny + t) (fun k => zr_b a3 x y ny s t k) a5 i b) 4 0 a5 (by omega) zf_p0 ?_ ?_
  · exact fun f b h => pk_le 4 4 (fun _ => G b h) (fun z => absurd z (by omega))
  · intro f i b hi h hw
    refine pk_le 4 i (fun z => absurd z (by omega)) (fun _ => ⟨pk_in ((x + s) * 4 + i) 320 (by omega) (zn_ix _ i), ?_⟩)
    rw [pk_cl _ (zn_ix (x + s) i)]
    refine zw_spr (fun q hq => ?_) (fun r hr => ⟨pk_in ((y + t) * 4 + i) 320 (by omega) (zn_ix _ i), nm_e ⟨pk_in ((s * ny + t) * 4 + i) 256 (by omega) (zn_ix _ i), nm_e (nm_r (nI_1 i) (hw _ (zf_ps h (pk_cl _ (zn_ix _ i)) ?_)))⟩⟩)
    · have := zn_lin (rA i q hi hq) ht
      omega
    · rw [pk_cl _ (zn_ix (y + t) i), pk_mul]
      intro p
      rw [zb_orT, hr p, zb_shT (by omega)]
      constructor
      · rintro (g | ⟨g1, g2, g3⟩)
        · exact Or.inl g
        · exact Or.inr ⟨p - s * ny, g3, by omega⟩
      · rintro (g | ⟨q, g, rfl⟩)
        · exact Or.inl g
        · have := zn_lin hs (rB i q hi g)
          refine Or.inr ⟨by omega, by omega, ?_⟩
          rw [show s * ny + q - s * ny = q by omega]
          exact g
theorem zw_pair {post : St1 → Prop} {H x y nx ny s t : Nat} (hH : H ≤ 6) (e1 : a1 H = nI x) (e2 : a1 (H + 1) = nI y) (hs : s < nx) (ht : t < ny) (hn : nx * ny ≤ 64) (hx : x + nx ≤ 80) (hy : y + ny ≤ 80)
    (rA : ∀ k q, k < 4 → zb_t (a3 ((x + s) * 4 + k)) q = true → q < nx) (rB : ∀ k q, k < 4 → zb_t (a3 ((y + t) * 4 + k)) q = true → q < ny)
    (G : ∀ b v, zf_p (s * ny + t) (fun k => zr_b a3 x y ny s t k) a5 4 b → v = 0 ∨ v = 1 → (¬ a4 (x + s) = 0 → ¬ a4 (y + t) = 0 → ¬ v = 0) → post (nI (H + 2), fm, fe, fj, fs, ff, fl, a1, a2, a3, a4, b, upd a6 (s * ny + t) v, a7, a8, a9)) :
    wpX_pair post (nI (H + 2), fm, fe, fj, fs, ff, fl, a1, a2, a3, a4, a5, a6, a7, a8, a9) (nI s) (nI t) (nI ny) := by
  have lin := zn_lin hs ht
  have d2 : nI (H + 2) - 2 = nI H := pk_sub (a := H + 2) (b := 2) (by omega)
  have d1 : nI (H + 2) - 1 = nI (H + 1) := nI_pred (H + 1)
  have q2 : a1 (nI (H + 2) - 2).toNatClampNeg + nI s = nI (x + s) := by rw [pk_cl H d2, e1, nI_add]
  have q1 : a1 (nI (H + 2) - 1).toNatClampNeg + nI t = nI (y + t) := by rw [pk_cl (H + 1) d1, e2, nI_add]
  have q0 : nI s * nI ny + nI t = nI (s * ny + t) := by rw [pk_mul, nI_add]
  refine ⟨pk_in H 8 (by omega) d2, nm_r q2 ⟨pk_in (H + 1) 8 (by omega) d1, nm_r q1 (nm_r q0 ⟨pk_in (x + s) 80 (by omega), ?_⟩)⟩⟩
  have cl : (nI (s * ny + t)).toNatClampNeg = s * ny + t := nI_clamp (by omega)
  refine br_c (fun g => ⟨pk_in (s * ny + t) 64 (by omega), nm_r (show upd a6 (nI (s * ny + t)).toNatClampNeg 0 = upd a6 (s * ny + t) 0 by rw [cl]) (zw_p72 hs ht hn hx hy rA rB (fun b hb => G b 0 hb (Or.inl rfl) ?_))⟩) (fun g => ⟨pk_in (y + t) 80 (by omega), br_c (fun g' => ⟨pk_in (s * ny + t) 64 (by omega), nm_r (show upd a6 (nI (s * ny + t)).toNatClampNeg 0 = upd a6 (s * ny + t) 0 by rw [cl]) (zw_p72 hs ht hn hx hy rA rB (fun b hb => G b 0 hb (Or.inl rfl) ?_))⟩) (fun g' => ⟨pk_in (s * ny + t) 64 (by omega), nm_r (show upd a6 (nI (s * ny + t)).toNatClampNeg 1 = upd a6 (s * ny + t) 1 by rw [cl]) (zw_p72 hs ht hn hx hy rA rB (fun b hb => G b 1 hb (Or.inr rfl) (fun _ _ => by decide)))⟩)⟩)
  · rw [nI_clamp (by omega)] at g
    exact fun n _ => absurd g n
  · rw [nI_clamp (by omega)] at g'
    exact fun _ n => absurd g' n
theorem zw_both {post : Int32 → St1 → Prop} {H E : Nat} {z : Nat → Nat} (B : zi_B H E z a1 a2 a3 a4 a6) (K : zi_K fs ff fl a7 a8 a9 post) :
    wpX_both post (nI H, fm, nI E, fj, fs, ff, fl, a1, a2, a3, a4, a5, a6, a7, a8, a9) := by
  unfold wpX_both
  refine zw_ref (c := 2) rfl (by omega) B.1 (fun h1 => br_t (by decide) ?_) (fun r hr => br_f hr (K _ H E z _ _ _ _ _ _ _ _ B))
  obtain ⟨H, rfl⟩ : ∃ c, H = c + 2 := ⟨H - 2, by omega⟩
  have B' := B
  obtain ⟨hH, hE, hp, hL, c4, c6⟩ := B'
  have p2 := zi_pw hE
  obtain ⟨g1, g2, g3, g4⟩ := hL H (by omega)
  obtain ⟨k1, k2, k3, k4⟩ := hL (H + 1) (by omega)
  have hz0 := zs_pos H (fun q hq => (hL q (by omega)).1)
  have bd := zs_bd (H + 2) (fun q hq => (hL q hq).1)
  have hs2 : zs_sm z (H + 2) = zs_sm z (H + 1) + z (H + 1) := rfl
  have hs1 : zs_sm z (H + 1) = zs_sm z H + z H := rfl
  have hpr : z H * z (H + 1) ≤ zs_pr z (H + 2) := by
    show _ ≤ zs_pr z H * z H * z (H + 1)
    rw [Nat.mul_assoc]
    exact Nat.le_mul_of_pos_left _ hz0
  have hJ1 : 1 ≤ z H * z (H + 1) := Nat.mul_pos g1 k1
  obtain ⟨nx, hnx⟩ : ∃ c, z H = c := ⟨_, rfl⟩
  obtain ⟨x, hx⟩ : ∃ c, zs_sm z H = c := ⟨_, rfl⟩
  obtain ⟨y, hy⟩ : ∃ c, zs_sm z (H + 1) = c := ⟨_, rfl⟩
  obtain ⟨ny, hny⟩ : ∃ c, z (H + 1) = c := ⟨_, rfl⟩
  rw [hnx, hx] at g4
  rw [hy, hny] at k4
  rw [hx] at g2
  rw [hnx] at g3
  rw [hy] at k2
  rw [hny] at k3
  rw [hnx, hny] at hpr hJ1
  have hn : nx * ny ≤ 64 := by omega
  have e2 : nI (H + 2) - 2 = nI H := pk_sub (a := H + 2) (b := 2) (by omega)
  have e1 : nI (H + 2) - 1 = nI (H + 1) := nI_pred (H + 1)
  have ec2 : (nI (H + 2) - 2).toNatClampNeg = H := pk_cl H e2
  have ec1 : (nI (H + 2) - 1).toNatClampNeg = H + 1 := pk_cl (H + 1) e1
  refine ⟨pk_in H 8 (by omega) e2, nm_r (show a2 (nI (H + 2) - 2).toNatClampNeg = nI nx by rw [ec2, g3]) ⟨pk_in (H + 1) 8 (by omega) e1, nm_r (show a2 (nI (H + 2) - 1).toNatClampNeg = nI ny by rw [ec1, k3]) ?_⟩⟩
  refine pk_loop (σ := (Nat → Int64) × (Nat → Int32)) (fun f i s => wX_both_39 post (nI nx) (nI ny) f (nI i) (nI (H + 2)) fm (nI E) fj fs ff fl a1 a2 a3 a4 s.1 s.2 a7 a8 a9)
    (fun i s => zr_I a3 a4 x y nx ny (i * ny) s.1 s.2) nx 0 (a5, a6) (by omega) ⟨fun s t hs ht hw => absurd hw (by omega), c6⟩ ?_ ?_
  · rintro f ⟨b5, b6⟩ h
    have h : zr_I a3 a4 x y nx ny (nx * ny) b5 b6 := h
    refine pk_le nx nx (fun _ => nm_r (pk_mul nx ny) (zw_fin B hJ1 (by rw [hnx, hny]; exact Nat.le_refl _) (zj_bo g4 k4 (by omega) h) h.2 (fun r m' b2 b3 b4 z' B' => K r (H + 1) E z' m' _ a1 b2 b3 b4 _ _ B'))) (fun z => absurd z (by omega))
  · rintro f i ⟨b5, b6⟩ hi h hw
    have h : zr_I a3 a4 x y nx ny (i * ny) b5 b6 := h
    refine pk_le nx i (fun z => absurd z (by omega)) (fun _ => ?_)
    refine pk_loop (σ := (Nat → Int64) × (Nat → Int32)) (fun f' t s => wX_both_48 post (wX_both_39 post (nI nx) (nI ny) f) (nI nx) (nI ny) (nI i) f' (nI t) (nI (H + 2)) fm (nI E) fj fs ff fl a1 a2 a3 a4 s.1 s.2 a7 a8 a9)
      (fun t s => zr_I a3 a4 x y nx ny (i * ny + t) s.1 s.2) ny 0 (b5, b6) (by omega) h ?_ ?_
    · rintro f' ⟨d5, d6⟩ h'
      have h' : zr_I a3 a4 x y nx ny (i * ny + ny) d5 d6 := h'
      rw [← Nat.succ_mul] at h'
      exact pk_le ny ny (fun _ => nm_r (nI_1 i) (hw (d5, d6) h')) (fun z => absurd z (by omega))
    · rintro f' t ⟨d5, d6⟩ ht h' hw'
      have h' : zr_I a3 a4 x y nx ny (i * ny + t) d5 d6 := h'
      exact pk_le ny t (fun z => absurd z (by omega)) (fun _ => zw_pair (H := H) (nx := nx) (by omega) g2 k2 hi ht hn (by omega) (by omega) (fun k q hk g => (g4.1 i k q hi hk g).2) (fun k q hk g => (k4.1 t k q ht hk g).2) (fun b v hb hv hv' => nm_r (nI_1 t) (hw' (b, _) (zr_Is h' ht hb hv hv'))))
end
end
section
/-! ===== define, feed, undo; a turn ===== -/
section
variable {fh fm fe fj fs fl : Int32} {ff : Int64} {a1 a2 a4 a6 a8 : Nat → Int32} {a3 a5 a7 a9 : Nat → Int64}
theorem zw_d59 {post : Int32 → St1 → Prop} {J : Int32 → Int64 → (Nat → Int32) → (Nat → Int32) → (Nat → Int64) → (Nat → Int32) → (Nat → Int64) → (Nat → Int32) → (Nat → Int64) → (Nat → Int32) → (Nat → Int64) → Prop} {s : Nat} (hs : s < 64)
    (G : ∀ b, zf_4 (0 + s) (fun k => a3 (s * 4 + k)) a7 4 b → J (nI (s + 1)) ff a1 a2 a3 a4 a5 a6 b a8 a9) :
    ∃ f, wX_define_59 post J (nI s) fh fm fe fj fs ff fl f 0 a1 a2 a3 a4 a5 a6 a7 a8 a9 := by
  rw [Nat.zero_add] at G
  refine pk_loop (fun f i b => wX_define_59 post J (nI s) fh fm fe fj fs ff fl f (nI i) a1 a2 a3 a4 a5 a6 b a8 a9)
    (fun i b => zf_4 s (fun k => a3 (s * 4 + k)) a7 i b) 4 0 a7 (by omega) zf_40 ?_ ?_
  · exact fun f b h => pk_le 4 4 (fun _ => nm_r (nI_1 s) (G b h)) (fun z => absurd z (by omega))
  · intro f i b hi h hw
    exact pk_le 4 i (fun z => absurd z (by omega)) (fun _ => ⟨pk_in (s * 4 + i) 320 (by omega) (zn_ix s i), pk_in (s * 4 + i) 256 (by omega) (zn_ix s i), nm_e (nm_r (nI_1 i) (hw _ (zf_4s h (pk_cl _ (zn_ix s i)) (by rw [pk_cl _ (zn_ix s i)]))))⟩)
theorem zp_def {n : Nat} {b7 o7 : Nat → Int64} {fi : Int64} (hg : zm_g n (fun s k => a3 ((0 + s) * 4 + k)) (fun s => a4 (0 + s)))
    (h1 : ∀ q, zb_t fi q = true ↔ q < n ∧ ¬ a4 q = 0) (h2 : zf_r 0 (fun s k => a3 (s * 4 + k)) o7 n b7) : zp_ok n b7 fi := by
  have row : ∀ s k, s < n → k < 4 → b7 (s * 4 + k) = a3 (s * 4 + k) := by
    intro s k hs hk
    have e := h2.1 s k hs hk
    rw [Nat.zero_add] at e
    exact e
  obtain ⟨r, μ, m⟩ := hg
  refine ⟨fun s k t hs hk g => ?_, μ, fun s hs => ?_⟩
  · rw [row s k hs hk] at g
    exact (r s k t hs hk (by dsimp only; rw [Nat.zero_add]; exact g)).2
  · rcases m s hs with g | ⟨k, hk, t, g, g'⟩
    · left
      dsimp only at g
      rw [Nat.zero_add] at g
      exact (h1 s).mpr ⟨hs, g⟩
    · right
      dsimp only at g
      rw [Nat.zero_add] at g
      exact ⟨k, hk, t, by rw [row s k hs hk]; exact g, g'⟩
theorem zw_def {post : Int32 → St1 → Prop} {H E n l : Nat} {z : Nat → Nat} (B : zi_B H E z a1 a2 a3 a4 a6) (P : zi_P n ff l a7 a9)
    (K : ∀ (r : Int32) (H E n l : Nat) (fm : Int32) (ff : Int64) (a7 : Nat → Int64), zi_B H E z a1 a2 a3 a4 a6 → zi_P n ff l a7 a9 → post r (nI H, fm, nI E, fj, nI n, ff, nI l, a1, a2, a3, a4, a5, a6, a7, a8, a9)) :
    wpX_define post (nI H, fm, nI E, fj, nI n, ff, nI l, a1, a2, a3, a4, a5, a6, a7, a8, a9) := by
  refine pk_eq H 1 (fun e => ?_) (fun _ => K _ H E n l fm ff a7 B P) rfl rfl (Nat.lt_of_le_of_lt B.1 (by decide))
  subst e
  obtain ⟨hH, hE, hp, hL, c4, c6⟩ := B
  have p2 := zi_pw hE
  obtain ⟨g1, _, g3, g4⟩ := hL 0 (by omega)
  have hp : 1 * z 0 ≤ 2 ^ E := hp
  have g4 : zm_g (z 0) (fun s k => a3 ((0 + s) * 4 + k)) (fun s => a4 (0 + s)) := g4
  refine nm_r g3 ?_
  refine pk_loop (σ := Int64 × (Nat → Int64)) (fun f i s => wX_define_28 post (nI 1) fm (nI E) fj (nI (z 0)) (nI l) f (nI i) s.1 a1 a2 a3 a4 a5 a6 s.2 a8 a9)
    (fun i s => (∀ q, zb_t s.1 q = true ↔ q < i ∧ ¬ a4 q = 0) ∧ zf_r 0 (fun s k => a3 (s * 4 + k)) a7 i s.2) (z 0) 0 (0, a7) (by omega) ⟨?_, zf_r0⟩ ?_ ?_
  · intro q
    show zb_t 0 q = true ↔ _
    rw [zb_0]
    exact ⟨fun g => absurd g (by decide), fun g => absurd g.1 (by omega)⟩
  · rintro f ⟨fi, b7⟩ ⟨h1, h2⟩
    have h1 : ∀ q, zb_t fi q = true ↔ q < z 0 ∧ ¬ a4 q = 0 := h1
    have h2 : zf_r 0 (fun s k => a3 (s * 4 + k)) a7 (z 0) b7 := h2
    obtain ⟨_, _, _, _, r0, _⟩ := P
    refine pk_le (z 0) (z 0) (fun _ => K 0 0 0 (z 0) 0 0 fi b7 ⟨by omega, by omega, Nat.le_refl 1, fun i hi => absurd hi (by omega), c4, c6⟩ ⟨g1, by omega, by omega, zp_def g4 h1 h2, r0, fun i hi => ?_⟩) (fun z => absurd z (by omega))
    have e : i = 0 := by omega
    subst e
    rw [r0]
    refine ⟨by decide, fun t ht => ?_⟩
    rw [zb_1, decide_eq_true_iff] at ht
    omega
  · rintro f i ⟨fi, b7⟩ hi ⟨h1, h2⟩ hw
    have h1 : ∀ q, zb_t fi q = true ↔ q < i ∧ ¬ a4 q = 0 := h1
    have h2 : zf_r 0 (fun s k => a3 (s * 4 + k)) a7 i b7 := h2
    refine pk_le (z 0) i (fun z => absurd z (by omega)) (fun _ => ⟨pk_in i 80 (by omega), br_c (fun g => zw_d59 (by omega) (fun b hb => hw (fi, b) ⟨?_, zf_rs h2 hb⟩)) (fun g => nm_e (zw_d59 (by omega) (fun b hb => hw (_, b) ⟨?_, zf_rs h2 hb⟩)))⟩)
    · rw [nI_clamp (by omega)] at g
      intro q
      show zb_t fi q = true ↔ _
      rw [h1 q]
      constructor
      · rintro ⟨y, y2⟩
        exact ⟨by omega, y2⟩
      · rintro ⟨y, y2⟩
        by_cases c : q = i
        · subst c; exact absurd g y2
        · exact ⟨by omega, y2⟩
    · rw [nI_clamp (by omega)] at g
      intro q
      show zb_t (fi ||| (1 : Int64) <<< ((nI i).toInt64 &&& 63)) q = true ↔ _
      rw [zb_orT, h1 q, zb_one (by omega)]
      constructor
      · rintro (⟨y, y2⟩ | y)
        · exact ⟨by omega, y2⟩
        · subst y; exact ⟨by omega, g⟩
      · rintro ⟨y, y2⟩
        by_cases c : q = i
        · exact Or.inr c
        · exact Or.inl ⟨by omega, y2⟩
theorem zw_feed {post : Int32 → St1 → Prop} {n l k : Nat} {p : Int32} (hp : p = nI k) (hk : k < 4) (P : zi_P n ff l a7 a9)
    (K : ∀ (r : Int32) (l : Nat) (a8 : Nat → Int32) (a9 : Nat → Int64), zi_P n ff l a7 a9 → post r (fh, fm, fe, fj, nI n, ff, nI l, a1, a2, a3, a4, a5, a6, a7, a8, a9)) :
    wpX_feed post (fh, fm, fe, fj, nI n, ff, nI l, a1, a2, a3, a4, a5, a6, a7, a8, a9) p := by
  subst hp
  have hl := P.2.2.1
  by_cases c : l = 7
  · refine br_f (nI_pos (by omega)) (br_t (nI_le (b := 3) (by omega) (by decide)) (pk_eq l 7 (fun _ => K _ l a8 a9 P) (fun g => absurd c g)))
  · exact zw_fd P.2.1 (by omega) hk (fun r _ _ => K _ l a8 a9 P) (fun r h nz => K _ (l + 1) _ _ (zi_Pfd P (by omega) hk h nz))
theorem zw_undo {post : Int32 → St1 → Prop} {n l : Nat} (P : zi_P n ff l a7 a9)
    (K : ∀ (r : Int32) (l : Nat), zi_P n ff l a7 a9 → post r (fh, fm, fe, fj, nI n, ff, nI l, a1, a2, a3, a4, a5, a6, a7, a8, a9)) :
    wpX_undo post (fh, fm, fe, fj, nI n, ff, nI l, a1, a2, a3, a4, a5, a6, a7, a8, a9) := by
  obtain ⟨h1, h2, h3, h4, h5, h6⟩ := P
  cases l with
  | zero => exact br_t rfl (K _ 0 ⟨h1, h2, h3, h4, h5, h6⟩)
  | succ l => exact pk_eq (l + 1) 0 (fun z => absurd z (by omega)) (fun _ => nm_r (nI_pred l) ⟨pk_in l 8 (by omega), K _ l ⟨h1, h2, by omega, h4, h5, fun i hi => h6 i (by omega)⟩⟩)
theorem zw_turn {post : St1 → Prop} {H E n l : Nat} {z : Nat → Nat} {p1 p2 : Int32} (B : zi_B H E z a1 a2 a3 a4 a6) (P : zi_P n ff l a7 a9)
    (K : ∀ (H E n l : Nat) (z : Nat → Nat) (fm fj : Int32) (ff : Int64) (a1 a2 : Nat → Int32) (a3 : Nat → Int64) (a4 : Nat → Int32) (a5 : Nat → Int64) (a6 : Nat → Int32) (a7 : Nat → Int64) (a8 : Nat → Int32) (a9 : Nat → Int64),
      zi_B H E z a1 a2 a3 a4 a6 → zi_P n ff l a7 a9 → post (nI H, fm, nI E, fj, nI n, ff, nI l, a1, a2, a3, a4, a5, a6, a7, a8, a9)) :
    wpL_turn post (nI H, fm, nI E, fj, nI n, ff, nI l, a1, a2, a3, a4, a5, a6, a7, a8, a9) p1 p2 := by
  obtain ⟨k1, hk1, e1⟩ := pk_andE p2 (m := 3) 2 (by decide)
  obtain ⟨k2, hk2, e2⟩ := pk_andE (p2 >>> ((3 : Int32) &&& 31)) (m := 3) 2 (by decide)
  refine nm_e (br_c (fun _ => br_c (fun _ => ?skip) (fun _ => br_c (fun _ => br_c (fun _ => ?choice) (fun _ => br_c (fun _ => ?both) (fun _ => br_c (fun _ => ?loop) (fun _ => br_c (fun _ => ?option) (fun _ => br_c (fun _ => br_c (fun _ => br_c (fun _ => ?undo) (fun _ => br_c (fun _ => ?discard) (fun _ => br_c (fun _ => ?restart) (fun _ => ?feed2)))) (fun _ => ?feed)) (fun _ => ?define)))))) (fun _ => ?seq))) (fun _ => ?event))
  case skip => exact zw_sk B (fun r H E z fm fj a1 a2 a3 a4 a5 a6 B' => K H E n l z fm fj ff a1 a2 a3 a4 a5 a6 a7 a8 a9 B' P)
  case choice => exact zw_cho B (fun r H E z fm fj a1 a2 a3 a4 a5 a6 B' => K H E n l z fm fj ff a1 a2 a3 a4 a5 a6 a7 a8 a9 B' P)
  case both => exact zw_both B (fun r H E z fm fj a1 a2 a3 a4 a5 a6 B' => K H E n l z fm fj ff a1 a2 a3 a4 a5 a6 a7 a8 a9 B' P)
  case loop => exact zw_loop B (fun r H E z fm fj a1 a2 a3 a4 a5 a6 B' => K H E n l z fm fj ff a1 a2 a3 a4 a5 a6 a7 a8 a9 B' P)
  case option => exact zw_opt B (fun r H E z fm fj a1 a2 a3 a4 a5 a6 B' => K H E n l z fm fj ff a1 a2 a3 a4 a5 a6 a7 a8 a9 B' P)
  case seq => exact zw_seq B (fun r H E z fm fj a1 a2 a3 a4 a5 a6 B' => K H E n l z fm fj ff a1 a2 a3 a4 a5 a6 a7 a8 a9 B' P)
  case event => exact zw_evp e1 hk1 B (fun r H E z fm fj a1 a2 a3 a4 a5 a6 B' => K H E n l z fm fj ff a1 a2 a3 a4 a5 a6 a7 a8 a9 B' P)
  case undo => exact zw_undo P (fun r l' P' => K H E n l' z fm fj ff a1 a2 a3 a4 a5 a6 a7 a8 a9 B P')
  case discard => exact K 0 0 n l z 0 fj ff a1 a2 a3 a4 a5 a6 a7 a8 a9 ⟨by omega, by omega, Nat.le_refl 1, fun i hi => absurd hi (by omega), B.2.2.2.2.1, B.2.2.2.2.2⟩ P
  case restart => exact K H E n 0 z fm fj ff a1 a2 a3 a4 a5 a6 a7 a8 a9 B ⟨P.1, P.2.1, by omega, P.2.2.2.1, P.2.2.2.2.1, fun i hi => P.2.2.2.2.2 i (by omega)⟩
  case feed => exact zw_feed e1 hk1 P (fun r l' a8' a9' P' => K H E n l' z fm fj ff a1 a2 a3 a4 a5 a6 a7 a8' a9' B P')
  case feed2 => exact zw_feed e2 hk2 P (fun r l' a8' a9' P' => K H E n l' z fm fj ff a1 a2 a3 a4 a5 a6 a7 a8' a9' B P')
  case define => exact zw_def B P (fun r H' E' n' l' fm' ff' a7' B' P' => K H' E' n' l' z fm' fj ff' a1 a2 a3 a4 a5 a6 a7' a8 a9 B' P')
end
end
section
/-! ===== the law ===== -/
theorem zl_10 {L : Nat} {xs : Nat → Int32} {kc ks : Nat} (hL : L ≤ 260) : ∀ c i, L ≤ i + c → i ≤ 2 ^ 20 → ∀ (H E n l : Nat) (z : Nat → Nat) (fm fj : Int32) (ff : Int64) (a1 a2 : Nat → Int32) (a3 : Nat → Int64) (a4 : Nat → Int32) (a5 : Nat → Int64) (a6 : Nat → Int32) (a7 : Nat → Int64) (a8 : Nat → Int32) (a9 : Nat → Int64),
    zi_B H E z a1 a2 a3 a4 a6 → zi_P n ff l a7 a9 → wL_law_10 (fun r => r = 1) L xs kc ks (c + 1) (nI i) (nI H) fm (nI E) fj (nI n) ff (nI l) a1 a2 a3 a4 a5 a6 a7 a8 a9
  | 0, i, hc, hi, H, E, n, l, z, fm, fj, ff, a1, a2, a3, a4, a5, a6, a7, a8, a9, B, P => pk_le L (i + 1) (fun _ => zl_38 P) (fun z => absurd z (by omega)) rfl (nI_1 i)
  | c + 1, i, hc, hi, H, E, n, l, z, fm, fj, ff, a1, a2, a3, a4, a5, a6, a7, a8, a9, B, P =>
    pk_le L (i + 1) (fun _ => zl_38 P) (fun h => ⟨pk_in i L (by omega), pk_in (i + 1) L h (nI_1 i), zw_turn B P (fun H E n l z fm fj ff a1 a2 a3 a4 a5 a6 a7 a8 a9 B' P' =>
      nm_r (show nI i + 2 = nI (i + 2) from nI_add i 2) (zl_10 hL c (i + 2) (by omega) (by omega) H E n l z fm fj ff a1 a2 a3 a4 a5 a6 a7 a8 a9 B' P'))⟩) rfl (nI_1 i)
theorem zi_P0 : zi_P 1 1 0 (fun _ => 0) (vp_updL (fun _ => 0) 0 1) := by
  refine ⟨by omega, by omega, by omega, ⟨fun s k t hs hk g => ?_, fun _ => 0, fun s hs => Or.inl ?_⟩, pk_uLs, fun i hi => ?_⟩
  · rw [zb_0] at g
    exact absurd g (by decide)
  · have e : s = 0 := by omega
    subst e
    decide
  · have e : i = 0 := by omega
    subst e
    rw [pk_uLs]
    refine ⟨by decide, fun t ht => ?_⟩
    rw [zb_1, decide_eq_true_iff] at ht
    omega
theorem zi_B0 : zi_B 0 0 (fun _ => 0) (fun _ => 0) (fun _ => 0) (fun _ => 0) (fun _ => 0) (fun _ => 0) :=
  ⟨by omega, by omega, Nat.le_refl 1, fun i hi => absurd hi (by omega), fun _ => Or.inl rfl, fun _ => Or.inl rfl⟩
theorem i_vc (xs : Nat → Int32) (L : Nat) (hL : L ≤ 260) : wpL_law (fun r => r = 1) L xs := by
  refine ⟨9, 1008, by decide, by decide, by decide, by decide, by decide, by decide, by decide, by decide, by decide, by decide, by decide, by decide, by decide, by decide, by decide, by decide, by decide, by decide, by decide, by decide, nm_e ⟨L + 1, ?_⟩⟩
  exact zl_10 hL L 0 (by omega) (by omega) 0 0 1 0 (fun _ => 0) 0 0 1 _ _ _ _ _ _ _ _ _ zi_B0 zi_P0
end
