section
/-! ===== bits of a long ===== -/
def sr_tb (w : Int64) (i : Nat) : Bool := w.toBitVec.getLsbD i
theorem sr_or (x y : Int64) (i : Nat) : sr_tb (x ||| y) i = (sr_tb x i || sr_tb y i) := by unfold sr_tb; rw [Int64.toBitVec_or, BitVec.getLsbD_or]
theorem sr_and (x y : Int64) (i : Nat) : sr_tb (x &&& y) i = (sr_tb x i && sr_tb y i) := by unfold sr_tb; rw [Int64.toBitVec_and, BitVec.getLsbD_and]
theorem sr_xor (x y : Int64) (i : Nat) : sr_tb (x ^^^ y) i = (sr_tb x i ^^ sr_tb y i) := by unfold sr_tb; rw [Int64.toBitVec_xor, BitVec.getLsbD_xor]
theorem sr_0 (i : Nat) : sr_tb 0 i = false := BitVec.getLsbD_zero
theorem sr_big {w : Int64} {i : Nat} (h : 64 ≤ i) : sr_tb w i = false := BitVec.getLsbD_of_ge _ _ h
theorem sr_m1 : ∀ i, i < 64 → sr_tb (-1) i = true := by decide +kernel
theorem sr_not (x : Int64) {i : Nat} (h : i < 64) : sr_tb (x ^^^ (-1)) i = !(sr_tb x i) := by rw [sr_xor, sr_m1 i h, Bool.xor_true]
theorem sr_ext {x y : Int64} (h : ∀ i, i < 64 → sr_tb x i = sr_tb y i) : x = y := Int64.toBitVec_inj.mp (BitVec.eq_of_getLsbD_eq (fun i hi => h i hi))
theorem sr_lt {w : Int64} {i : Nat} (h : sr_tb w i = true) : i < 64 := by
  rcases Nat.lt_or_ge i 64 with g | g
  · exact g
  · rw [sr_big g] at h; exact absurd h (by decide)
theorem sr_ne0 {x : Int64} (h : ¬ x = 0) : ∃ i, i < 64 ∧ sr_tb x i = true := by
  refine Classical.byContradiction fun n => h (sr_ext fun i hi => ?_)
  rw [sr_0]
  cases e : sr_tb x i with
  | false => rfl
  | true => exact absurd ⟨i, hi, e⟩ n
theorem sr_one : ∀ k, k < 64 → ((1 : Int64) <<< ((nI k).toInt64 &&& 63)).toBitVec = BitVec.twoPow 64 k := by decide +kernel
theorem sr_bit1 {k : Nat} (hk : k < 64) (i : Nat) : sr_tb ((1 : Int64) <<< ((nI k).toInt64 &&& 63)) i = decide (k = i) := by
  unfold sr_tb
  rw [sr_one k hk, BitVec.getLsbD_twoPow]
  simp [hk]
theorem sr_c : ∀ k, k < 64 → (((nI k).toInt64 &&& 63).toBitVec.smod 64).toNat = k := by decide +kernel
theorem sr_cu : ∀ k, k < 64 → (((nI k).toInt64.toUInt64 &&& Int64.toUInt64 63).toBitVec % 64).toNat = k := by decide +kernel
theorem sr_shl {n : Nat} (hn : n < 64) (x : Int64) {i : Nat} (hi : i < 64) : sr_tb (x <<< ((nI n).toInt64 &&& 63)) i = (decide (n ≤ i) && sr_tb x (i - n)) := by
  unfold sr_tb
  rw [Int64.toBitVec_shiftLeft]
  show (x.toBitVec <<< (((nI n).toInt64 &&& 63).toBitVec.smod 64).toNat).getLsbD i = _
  rw [sr_c n hn, BitVec.getLsbD_shiftLeft]
  rcases Nat.lt_or_ge i n with h | h
  · simp [h, Nat.not_le.mpr h]
  · simp [hi, h, Nat.not_lt.mpr h]
theorem sr_ushr {n : Nat} (hn : n < 64) (x : Int64) (i : Nat) : sr_tb ((x.toUInt64 >>> ((nI n).toInt64.toUInt64 &&& Int64.toUInt64 63)).toInt64) i = sr_tb x (n + i) := by
  show (x.toUInt64 >>> ((nI n).toInt64.toUInt64 &&& Int64.toUInt64 63)).toBitVec.getLsbD i = x.toUInt64.toBitVec.getLsbD (n + i)
  rw [UInt64.toBitVec_shiftRight]
  show (x.toUInt64.toBitVec >>> (((nI n).toInt64.toUInt64 &&& Int64.toUInt64 63).toBitVec % 64).toNat).getLsbD i = _
  rw [sr_cu n hn, BitVec.getLsbD_ushiftRight]
theorem sr_sshr {n : Nat} (hn : n < 64) (x : Int64) {i : Nat} (hi : n + i < 64) : sr_tb (x >>> ((nI n).toInt64 &&& 63)) i = sr_tb x (n + i) := by
  unfold sr_tb
  rw [Int64.toBitVec_shiftRight]
  show (x.toBitVec.sshiftRight (((nI n).toInt64 &&& 63).toBitVec.smod 64).toNat).getLsbD i = _
  rw [sr_c n hn, BitVec.getLsbD_sshiftRight]
  simp [hi, show i < 64 by omega]
theorem sr_t1 : ∀ i, i < 64 → sr_tb 1 i = decide (i = 0) := by decide +kernel
theorem sr_t63 : ∀ i, i < 64 → sr_tb 63 i = decide (i < 6) := by decide +kernel
theorem sr_t15 : ∀ i, i < 64 → sr_tb 15 i = decide (i < 4) := by decide +kernel
theorem sr_lo : ∀ k, k < 64 → ∀ i, i < 64 → sr_tb (((1 : Int64) <<< ((nI k).toInt64 &&& 63)) - 1) i = decide (i < k) := by decide +kernel
theorem sr_lN {n i : Nat} (hi : i < 64) : sr_tb (lN n) i = n.testBit i := by
  show (BitVec.ofNat 64 n).getLsbD i = _
  rw [BitVec.getLsbD_ofNat]
  simp [hi]
/-- what bitAt answers -/
theorem sr_at (w : Int64) {k : Nat} (hk : k < 64) : (((w.toUInt64 >>> ((nI k).toInt64.toUInt64 &&& Int64.toUInt64 63)).toInt64) &&& 1).toInt32 = if sr_tb w k = true then 1 else 0 := by
  have e : (((w.toUInt64 >>> ((nI k).toInt64.toUInt64 &&& Int64.toUInt64 63)).toInt64) &&& 1) = if sr_tb w k = true then (1 : Int64) else 0 := by
    apply sr_ext
    intro i hi
    rw [sr_and, sr_ushr hk, sr_t1 i hi]
    by_cases h0 : i = 0
    · subst h0
      by_cases hb : sr_tb w k = true
      · rw [if_pos hb, Nat.add_zero, hb]; rfl
      · rw [if_neg hb, Nat.add_zero, sr_0]
        simp [hb]
    · rw [decide_eq_false h0, Bool.and_false]
      split
      · rw [sr_t1 i hi, decide_eq_false h0]
      · rw [sr_0]
  rw [e]
  by_cases hb : sr_tb w k = true
  · rw [if_pos hb, if_pos hb]; rfl
  · rw [if_neg hb, if_neg hb]; rfl
theorem sr_bitAt {post : Int32 → Prop} {u : St2} {w : Int64} {x : Int32} (k : Nat) (hk : k < 64) (H1 : sr_tb w k = true → post 1) (H0 : sr_tb w k = false → post 0) (hx : x = nI k := by rfl) : wpX_bitAt post u w x := by
  subst hx
  unfold wpX_bitAt
  rw [sr_at w hk]
  cases e : sr_tb w k with
  | true => exact H1 e
  | false => exact H0 e
/-! ===== counting bits ===== -/
def sr_bc (w : Int64) : Nat → Nat
  | 0 => 0
  | n + 1 => sr_bc w n + (if sr_tb w n = true then 1 else 0)
theorem sr_bc_le (w : Int64) (n : Nat) : sr_bc w n ≤ n := by
  induction n with
  | zero => exact Nat.le_refl 0
  | succ n ih => rw [sr_bc]; split <;> omega
theorem sr_bc_mono {w v : Int64} (h : ∀ i, sr_tb w i = true → sr_tb v i = true) (n : Nat) : sr_bc w n ≤ sr_bc v n := by
  induction n with
  | zero => exact Nat.le_refl 0
  | succ n ih =>
    rw [sr_bc, sr_bc]
    by_cases e : sr_tb w n = true
    · rw [if_pos e, if_pos (h n e)]; omega
    · rw [if_neg e]; omega
theorem sr_bc_lt {w v : Int64} (h : ∀ i, sr_tb w i = true → sr_tb v i = true) {j : Nat} (h1 : sr_tb v j = true) (h0 : sr_tb w j = false) : ∀ n, j < n → sr_bc w n + 1 ≤ sr_bc v n := by
  intro n
  induction n with
  | zero => intro hj; omega
  | succ n ih =>
    intro hj
    rw [sr_bc, sr_bc]
    by_cases e : j = n
    · subst e
      have m := sr_bc_mono h j
      rw [if_pos h1, h0, if_neg (by decide)]
      omega
    · have t := ih (by omega)
      by_cases e : sr_tb w n = true
      · rw [if_pos e, if_pos (h n e)]; omega
      · rw [if_neg e]; omega
theorem sr_bc_add {w v : Int64} {b n : Nat} (h : ∀ i, i < n → sr_tb v i = sr_tb w (b + i)) : sr_bc w (b + n) = sr_bc w b + sr_bc v n := by
  induction n with
  | zero => rfl
  | succ n ih =>
    rw [← Nat.add_assoc, sr_bc, sr_bc, ih (fun i hi => h i (by omega)), h n (by omega)]
    omega
theorem sr_bc_z {v : Int64} {b n : Nat} (h : ∀ i, b ≤ i → sr_tb v i = false) : sr_bc v (b + n) = sr_bc v b := by
  induction n with
  | zero => rfl
  | succ n ih => rw [← Nat.add_assoc, sr_bc, ih, h (b + n) (by omega)]; rfl
/-- one row of six -/
theorem sr_bc_row (w : Int64) {x : Nat} (hx : x < 6) : sr_bc w (6 * x) + sr_bc (((w.toUInt64 >>> ((nI (6 * x)).toInt64.toUInt64 &&& Int64.toUInt64 63)).toInt64) &&& 63) 36 = sr_bc w (6 * (x + 1)) := by
  have h6 : ∀ i, 6 ≤ i → sr_tb (((w.toUInt64 >>> ((nI (6 * x)).toInt64.toUInt64 &&& Int64.toUInt64 63)).toInt64) &&& 63) i = false := by
    intro i hi
    rcases Nat.lt_or_ge i 64 with g | g
    · rw [sr_and, sr_t63 i g, decide_eq_false (by omega), Bool.and_false]
    · exact sr_big g
  rw [show 6 * (x + 1) = 6 * x + 6 by omega, sr_bc_z (b := 6) (n := 30) h6]
  refine (sr_bc_add (fun i hi => ?_)).symm
  rw [sr_and, sr_t63 i (by omega), decide_eq_true hi, Bool.and_true, sr_ushr (by omega)]
theorem sr_ones {post : Int32 → Prop} {u : St2} {w : Int64} (H : post (nI (sr_bc w 36))) : wpX_ones post u w := by
  refine pk_loop (σ := Unit) (fun n i _ => wX_ones_4 post w n (nI (sr_bc w i)) (nI i)) (fun _ _ => True) 36 0 () (by omega) trivial
    (fun n _ _ => pk_le 36 36 (fun _ => H) (fun z => absurd z (by omega))) ?_
  intro n i _ hi _ hw
  refine pk_le 36 i (fun z => absurd z (by omega)) (fun _ => sr_bitAt i (by omega) (fun e => ?_) (fun e => ?_))
  · refine nm_r (e' := nI (sr_bc w (i + 1))) ?_ (nm_r (nI_1 i) (hw () trivial))
    rw [nI_1, sr_bc, if_pos e]
  · refine nm_r (e' := nI (sr_bc w (i + 1))) ?_ (nm_r (nI_1 i) (hw () trivial))
    rw [sr_bc, e, if_neg (by decide), Nat.add_zero]
    exact Int32.add_zero _
end
section
/-! ===== the picture: terms, atoms, levels of bound ===== -/
def sr_tv (s : Nat → Nat) (t : Nat) : Nat := if t < 4 then s t else t - 4
def sr_af (s : Nat → Nat) (p : Nat) : Nat := 6 * sr_tv s (p / 10 % 10) + sr_tv s (p % 10)
/-- s goes with level d of bound -/
def sr_ex (b : Nat → Int32) (d : Nat) (s : Nat → Nat) : Prop := (∀ v, s v < 6) ∧ ∀ v, v < 4 → b (4 * d + v) = -1 ∨ b (4 * d + v) = nI (s v)
def sr_en (b : Nat → Int32) (d : Nat) : Prop := ∀ v, v < 4 → b (4 * d + v) = -1 ∨ ∃ t, t < 6 ∧ b (4 * d + v) = nI t
def sr_bd (b : Nat → Int32) (d t : Nat) : Prop := t < 4 → ¬ b (4 * d + t) = -1
def sr_S (a2 a3 : Nat → Int64) (sp : Int32) (k p : Nat) : Int64 := if nI k = sp then a3 (p / 100) else a2 (p / 100)
theorem sr_nm1 {n : Nat} (h : n < 2 ^ 31) : ¬ nI n = -1 := fun e => nI_pos h (by rw [e]; decide)
theorem sr_tv_lt {s : Nat → Nat} (hs : ∀ v, s v < 6) {t : Nat} (ht : t < 10) : sr_tv s t < 6 := by
  unfold sr_tv
  split
  · exact hs t
  · omega
theorem sr_af_lt {s : Nat → Nat} (hs : ∀ v, s v < 6) (p : Nat) : sr_af s p < 36 := by
  have h1 := sr_tv_lt hs (show p / 10 % 10 < 10 by omega)
  have h2 := sr_tv_lt hs (show p % 10 < 10 by omega)
  unfold sr_af
  omega
theorem sr_af_iff {s : Nat → Nat} (hs : ∀ v, s v < 6) {p f : Nat} : sr_af s p = f ↔ sr_tv s (p / 10 % 10) = f / 6 ∧ sr_tv s (p % 10) = f % 6 := by
  have h2 := sr_tv_lt hs (show p % 10 < 10 by omega)
  unfold sr_af
  omega
theorem sr_d10 {p : Nat} (hp : p < 2 ^ 31) : nI p / 10 = nI (p / 10) := pk_div (d := 10) hp (by omega) (by omega)
theorem sr_r10 {p : Nat} (hp : p < 2 ^ 31) : nI p - nI p / 10 * 10 = nI (p % 10) := pk_rem (d := 10) hp (by omega) (by omega)
theorem sr_d100 {p : Nat} (hp : p < 2 ^ 31) : nI p / 100 = nI (p / 100) := pk_div (d := 100) hp (by omega) (by omega)
theorem sr_d6 {p : Nat} (hp : p < 2 ^ 31) : nI p / 6 = nI (p / 6) := pk_div (d := 6) hp (by omega) (by omega)
theorem sr_r6 {p : Nat} (hp : p < 2 ^ 31) : nI p - nI p / 6 * 6 = nI (p % 6) := pk_rem (d := 6) hp (by omega) (by omega)
theorem sr_4m (d : Nat) : (4 : Int32) * nI d = nI (4 * d) := pk_mul 4 d
theorem sr_3m (d : Nat) : (3 : Int32) * nI d = nI (3 * d) := pk_mul 3 d
theorem sr_6m (d : Nat) : (6 : Int32) * nI d = nI (6 * d) := pk_mul 6 d
theorem sr_p4 (d : Nat) : nI d + 4 = nI (d + 4) := nI_add d 4
section
variable {f1 f2 f3 f4 f5 f6 f7 f8 f9 : Int32} {a1 a2 a3 a4 a5 : Nat → Int64} {a6 a7 a8 a9 a10 a11 a12 a13 a14 : Nat → Int32}
theorem sr_agree {post : Int32 → St1 → Prop} {p0 p1 p2 : Int32} (d t x : Nat) (hd : d ≤ 3) (ht : t < 10) (hx : x < 6) (he : sr_en a14 d)
    (H1 : ∀ b, sr_en b d → (∀ j, j < 4 * d → b j = a14 j) → (∀ s, sr_ex b d s ↔ sr_ex a14 d s ∧ sr_tv s t = x) → sr_bd b d t → (∀ t', sr_bd a14 d t' → sr_bd b d t') → post 1 (f1, f2, f3, f4, f5, f6, f7, f8, f9, a1, a2, a3, a4, a5, a6, a7, a8, a9, a10, a11, a12, a13, b))
    (H0 : (∀ s, sr_ex a14 d s → ¬ sr_tv s t = x) → post 0 (f1, f2, f3, f4, f5, f6, f7, f8, f9, a1, a2, a3, a4, a5, a6, a7, a8, a9, a10, a11, a12, a13, a14))
    (e0 : p0 = nI (4 * d)) (e1 : p1 = nI t) (e2 : p2 = nI x) : wpX_agree post (f1, f2, f3, f4, f5, f6, f7, f8, f9, a1, a2, a3, a4, a5, a6, a7, a8, a9, a10, a11, a12, a13, a14) p0 p1 p2 := by
  subst e0 e1 e2
  have ec : (nI (4 * d) + nI t).toNatClampNeg = 4 * d + t := by rw [nI_add, nI_clamp (by omega)]
  have ei : t < 4 → vp_in (nI (4 * d) + nI t) 16 := fun h => pk_in (4 * d + t) 16 (by omega) (nI_add _ _)
  refine pk_lt t 4 (fun h => ⟨ei h, br_c (fun h7 => ⟨ei h, nm_e ?_⟩) (fun h7 => ?_)⟩) (fun h => ?_)
  · rw [ec] at h7 ⊢
    refine ⟨ei h, br_t (by rw [ec, pk_us]) (H1 _ ?_ ?_ ?_ ?_ ?_)⟩
    · intro v hv
      by_cases e : v = t
      · rw [e, pk_us]; exact Or.inr ⟨x, hx, rfl⟩
      · rw [pk_un (by omega)]; exact he v hv
    · intro j hj
      exact pk_un (by omega)
    · intro s
      constructor
      · intro hs
        have e : s t = x := by
          rcases hs.2 t h with g | g
          · rw [pk_us] at g; exact absurd g (sr_nm1 (by omega))
          · rw [pk_us] at g
            have := hs.1 t
            exact ((nI_eq (by omega) (by omega)).mp g).symm
        refine ⟨⟨hs.1, fun v hv => ?_⟩, ?_⟩
        · by_cases e' : v = t
          · rw [e']; exact Or.inl h7
          · have g := hs.2 v hv
            rw [pk_un (by omega)] at g
            exact g
        · unfold sr_tv; rw [if_pos h]; exact e
      · intro hs
        have e : s t = x := by
          have g := hs.2
          unfold sr_tv at g
          rw [if_pos h] at g
          exact g
        refine ⟨hs.1.1, fun v hv => ?_⟩
        by_cases e' : v = t
        · rw [e', pk_us, e]; exact Or.inr rfl
        · rw [pk_un (by omega)]; exact hs.1.2 v hv
    · intro _
      rw [pk_us]
      exact sr_nm1 (by omega)
    · intro t' ht' h4
      by_cases e' : t' = t
      · rw [e', pk_us]; exact sr_nm1 (by omega)
      · rw [pk_un (by omega)]; exact ht' h4
  · rw [ec] at h7
    have hv : ∀ s, sr_ex a14 d s → a14 (4 * d + t) = nI (s t) := fun s hs => (hs.2 t h).resolve_left h7
    have ht : ∀ s, sr_tv s t = s t := fun s => by unfold sr_tv; rw [if_pos h]
    refine ⟨ei h, br_c (fun g => ?_) (fun g => ?_)⟩
    · rw [ec] at g
      refine H1 _ he (fun _ _ => rfl) (fun s => ⟨fun hs => ⟨hs, ?_⟩, fun hs => hs.1⟩) (fun _ => h7) (fun _ z => z)
      have := hs.1 t
      have e := hv s hs
      rw [g] at e
      rw [ht s]
      exact ((nI_eq (by omega) (by omega)).mp e).symm
    · rw [ec] at g
      refine H0 (fun s hs e => g ?_)
      rw [hv s hs, ← ht s, e]
  · have e : nI t - 4 = nI (t - 4) := pk_sub (b := 4) h
    have ht : ∀ s, sr_tv s t = t - 4 := fun s => by unfold sr_tv; rw [if_neg (by omega)]
    refine pk_eq (t - 4) x (fun g => ?_) (fun g => ?_) e
    · exact H1 _ he (fun _ _ => rfl) (fun s => ⟨fun hs => ⟨hs, (ht s).trans g⟩, fun hs => hs.1⟩) (fun z => absurd z (by omega)) (fun _ z => z)
    · exact H0 (fun s _ z => g ((ht s).symm.trans z))
theorem sr_thing {post : Int32 → Prop} {p0 p1 : Int32} (m t : Nat) (s : Nat → Nat) (hm : m ≤ 3) (ht : t < 10) (hs : sr_ex a14 m s) (hb : sr_bd a14 m t)
    (H : post (nI (sr_tv s t))) (e0 : p0 = nI (4 * m)) (e1 : p1 = nI t) : wpX_thingFor post (f1, f2, f3, f4, f5, f6, f7, f8, f9, a1, a2, a3, a4, a5, a6, a7, a8, a9, a10, a11, a12, a13, a14) p0 p1 := by
  subst e0 e1
  refine pk_lt t 4 (fun h => ⟨pk_in (4 * m + t) 16 (by omega) (nI_add _ _), ?_⟩) (fun h => ?_)
  · have e : a14 (nI (4 * m) + nI t).toNatClampNeg = nI (sr_tv s t) := by
      rw [nI_add, nI_clamp (by omega)]
      unfold sr_tv
      rw [if_pos h]
      exact (hs.2 t h).resolve_left (hb h)
    rw [e]
    exact H
  · have e : nI t - 4 = nI (sr_tv s t) := by
      unfold sr_tv
      rw [if_neg (by omega)]
      exact pk_sub (b := 4) h
    rw [e]
    exact H
theorem sr_fact {post : Int32 → Prop} {p0 p1 : Int32} (m q : Nat) (s : Nat → Nat) (hm : m ≤ 3) (hq : q < 1000) (hs : sr_ex a14 m s) (hb1 : sr_bd a14 m (q / 10 % 10)) (hb2 : sr_bd a14 m (q % 10))
    (H : post (nI (sr_af s q))) (e0 : p0 = nI (4 * m)) (e1 : p1 = nI q) : wpX_factFor post (f1, f2, f3, f4, f5, f6, f7, f8, f9, a1, a2, a3, a4, a5, a6, a7, a8, a9, a10, a11, a12, a13, a14) p0 p1 := by
  subst e1
  refine ⟨by decide, by decide, ?_⟩
  refine sr_thing m (q / 10 % 10) s hm (by omega) hs hb1 ⟨by decide, ?_⟩ e0 (by rw [sr_d10 (by omega), sr_r10 (by omega)])
  refine sr_thing m (q % 10) s hm (by omega) hs hb2 ?_ e0 (sr_r10 (by omega))
  have e : (6 : Int32) * nI (sr_tv s (q / 10 % 10)) + nI (sr_tv s (q % 10)) = nI (sr_af s q) := by
    rw [sr_6m, nI_add]; rfl
  show post ((6 : Int32) * nI (sr_tv s (q / 10 % 10)) + nI (sr_tv s (q % 10)))
  rw [e]
  exact H
theorem sr_bind46 {post : Int32 → St1 → Prop} {z : Int64} (d f q p : Nat) (hd : d ≤ 2) (hf : f < 36) (hq : q < 42) (h8 : a8 q = nI p) (hp : p < 800) (he : sr_en a14 d)
    (H1 : sr_tb z f = true → ∀ b, sr_en b (d + 1) → (∀ j, j < 4 * d + 4 → b j = a14 j) → (∀ s, sr_ex b (d + 1) s ↔ sr_ex a14 d s ∧ sr_af s p = f) → sr_bd b (d + 1) (p / 10 % 10) → sr_bd b (d + 1) (p % 10) → (∀ t, sr_bd a14 d t → sr_bd b (d + 1) t) → post 1 (f1, f2, f3, f4, f5, f6, f7, f8, f9, a1, a2, a3, a4, a5, a6, a7, a8, a9, a10, a11, a12, a13, b))
    (H0 : (sr_tb z f = true → ∀ s, sr_ex a14 d s → ¬ sr_af s p = f) → ∀ b, (∀ j, j < 4 * d + 4 → b j = a14 j) → post 0 (f1, f2, f3, f4, f5, f6, f7, f8, f9, a1, a2, a3, a4, a5, a6, a7, a8, a9, a10, a11, a12, a13, b)) :
    wX_bind_46 post (nI d) (nI f) (nI q) z f1 f2 f3 f4 f5 f6 f7 f8 f9 a1 a2 a3 a4 a5 a6 a7 a8 a9 a10 a11 a12 a13 a14 := by
  unfold wX_bind_46
  have e8 : a8 (nI q).toNatClampNeg = nI p := by rw [nI_clamp (by omega)]; exact h8
  have E0 : (4 : Int32) * nI d + 4 = nI (4 * (d + 1)) := by rw [sr_4m, sr_p4]; rfl
  refine sr_bitAt f (by omega) (fun hb => br_f (by decide) ?_) (fun hb => br_t rfl (H0 (fun h => by rw [hb] at h; exact absurd h (by decide)) a14 (fun _ _ => rfl)))
  refine pk_loop (σ := Nat → Int32) (fun n i b => wX_bind_62 post (nI d) (nI f) (nI q) f1 f2 f3 f4 f5 f6 f7 f8 f9 n (nI i) a1 a2 a3 a4 a5 a6 a7 a8 a9 a10 a11 a12 a13 b) (fun i b => (∀ j, j < 4 * d + 4 → b j = a14 j) ∧ ∀ v, v < i → b (4 * d + 4 + v) = a14 (4 * d + v)) 4 0 a14 (by omega) ⟨fun _ _ => rfl, fun v hv => absurd hv (by omega)⟩ ?_ ?_
  · intro n b hI
    obtain ⟨hb1, hb2⟩ := hI
    have hen : sr_en b (d + 1) := fun v hv => by
      have g := he v hv
      rw [← hb2 v hv] at g
      exact g
    have hex : ∀ s, sr_ex b (d + 1) s ↔ sr_ex a14 d s := fun s => by
      constructor
      · intro hs
        refine ⟨hs.1, fun v hv => ?_⟩
        rw [← hb2 v hv]
        exact hs.2 v hv
      · intro hs
        refine ⟨hs.1, fun v hv => ?_⟩
        have g := hs.2 v hv
        rw [← hb2 v hv] at g
        exact g
    have hbd : ∀ t, sr_bd a14 d t → sr_bd b (d + 1) t := fun t ht h4 => by
      have g := ht h4
      rw [← hb2 t h4] at g
      exact g
    refine pk_le 4 4 (fun _ => ⟨pk_in q 42 hq, by decide, by decide, by decide, ?_⟩) (fun g => absurd g (by omega))
    refine sr_agree (d + 1) (p / 10 % 10) (f / 6) (by omega) (by omega) (by omega) hen (fun b1 g1 g2 g3 g4 g5 => ?_) (fun g => ?_) E0 (by rw [e8, sr_d10 (by omega), sr_r10 (by omega)]) (sr_d6 (by omega))
    · refine br_f (by decide) ⟨pk_in q 42 hq, by decide, by decide, ?_⟩
      refine sr_agree (d + 1) (p % 10) (f % 6) (by omega) (by omega) (by omega) g1 (fun b2 k1 k2 k3 k4 k5 => ?_) (fun k => ?_) E0 (by rw [e8, sr_r10 (by omega)]) (sr_r6 (by omega))
      · refine br_f (by decide) (H1 hb b2 k1 (fun j hj => ?_) (fun s => ?_) (k5 _ g4) k4 (fun t ht => k5 t (g5 t (hbd t ht))))
        · rw [k2 j (by omega), g2 j (by omega), hb1 j hj]
        · rw [k3 s, g3 s, hex s]
          constructor
          · intro hs
            exact ⟨hs.1.1, (sr_af_iff hs.1.1.1).mpr ⟨hs.1.2, hs.2⟩⟩
          · intro hs
            have := (sr_af_iff hs.1.1).mp hs.2
            exact ⟨⟨hs.1, this.1⟩, this.2⟩
      · refine br_t rfl (H0 (fun _ s hs e => ?_) b1 (fun j hj => ?_))
        · have := (sr_af_iff hs.1).mp e
          exact k s ((g3 s).mpr ⟨(hex s).mpr hs, this.1⟩) this.2
        · rw [g2 j (by omega), hb1 j hj]
    · refine br_t rfl (H0 (fun _ s hs e => ?_) b hb1)
      have := (sr_af_iff hs.1).mp e
      exact g s ((hex s).mpr hs) this.1
  · intro n i b hi hI hw
    obtain ⟨hb1, hb2⟩ := hI
    have E1 : (4 : Int32) * nI d + nI i = nI (4 * d + i) := by rw [sr_4m, nI_add]
    have E2 : (4 : Int32) * nI d + 4 + nI i = nI (4 * d + 4 + i) := by rw [sr_4m, sr_p4, nI_add]
    refine pk_le 4 i (fun g => absurd g (by omega)) (fun _ => ⟨pk_in (4 * d + i) 16 (by omega) E1, pk_in (4 * d + 4 + i) 16 (by omega) E2, nm_r (e' := upd b (4 * d + 4 + i) (a14 (4 * d + i))) ?_ (nm_r (nI_1 i) (hw _ ⟨?_, ?_⟩))⟩)
    · rw [E1, E2, nI_clamp (by omega), nI_clamp (by omega), hb1 (4 * d + i) (by omega)]
    · intro j hj
      rw [pk_un (by omega), hb1 j hj]
    · intro v hv
      by_cases e : v = i
      · rw [e, pk_us]
      · rw [pk_un (by omega), hb2 v (by omega)]
theorem sr_bind {post : Int32 → St1 → Prop} (d f q p : Nat) (hd : d ≤ 2) (hf : f < 36) (h12 : a12 d = nI q) (hq : q < 42) (h8 : a8 q = nI p) (hp : p < 800) (he : sr_en a14 d)
    (H1 : sr_tb (sr_S a2 a3 f5 q p) f = true → ∀ b, sr_en b (d + 1) → (∀ j, j < 4 * d + 4 → b j = a14 j) → (∀ s, sr_ex b (d + 1) s ↔ sr_ex a14 d s ∧ sr_af s p = f) → sr_bd b (d + 1) (p / 10 % 10) → sr_bd b (d + 1) (p % 10) → (∀ t, sr_bd a14 d t → sr_bd b (d + 1) t) → post 1 (f1, f2, f3, f4, f5, f6, f7, f8, f9, a1, a2, a3, a4, a5, a6, a7, a8, a9, a10, a11, a12, a13, b))
    (H0 : (sr_tb (sr_S a2 a3 f5 q p) f = true → ∀ s, sr_ex a14 d s → ¬ sr_af s p = f) → ∀ b, (∀ j, j < 4 * d + 4 → b j = a14 j) → post 0 (f1, f2, f3, f4, f5, f6, f7, f8, f9, a1, a2, a3, a4, a5, a6, a7, a8, a9, a10, a11, a12, a13, b)) :
    wpX_bind post (f1, f2, f3, f4, f5, f6, f7, f8, f9, a1, a2, a3, a4, a5, a6, a7, a8, a9, a10, a11, a12, a13, a14) (nI d) (nI f) := by
  have e8 : a8 (nI q).toNatClampNeg = nI p := by rw [nI_clamp (by omega)]; exact h8
  have E : a8 (nI q).toNatClampNeg / 100 = nI (p / 100) := by rw [e8, sr_d100 (by omega)]
  have EC : (a8 (nI q).toNatClampNeg / 100).toNatClampNeg = p / 100 := by rw [E, nI_clamp (by omega)]
  refine ⟨pk_in d 3 (by omega), nm_r (e' := nI q) (by rw [nI_clamp (by omega)]; exact h12) ?_⟩
  refine br_c (fun g => ⟨pk_in q 42 hq, by decide, pk_in (p / 100) 8 (by omega) E, ?_⟩) (fun g => ⟨pk_in q 42 hq, by decide, pk_in (p / 100) 8 (by omega) E, ?_⟩)
  · rw [EC]
    have e : sr_S a2 a3 f5 q p = a3 (p / 100) := by unfold sr_S; rw [if_pos g]
    rw [e] at H1 H0
    exact sr_bind46 d f q p hd hf hq h8 hp he H1 H0
  · rw [EC]
    have e : sr_S a2 a3 f5 q p = a2 (p / 100) := by unfold sr_S; rw [if_neg g]
    rw [e] at H1 H0
    exact sr_bind46 d f q p hd hf hq h8 hp he H1 H0
theorem sr_a120 {post : St1 → Prop} {z0 : Int32} (r h v : Nat) (hz : z0 = 0 ∨ z0 = 1) (hr : r < 14) (h6 : a6 r = nI h) (hh : h < 800)
    (H : post (f1, f2, f3, f4, f5, f6, f7, z0, f9, a1, a2, a3, vp_updL a4 (h / 100) (a4 (h / 100) ||| ((1 : Int64) <<< ((nI v).toInt64 &&& 63))), a5, a6, a7, a8, a9, a10, a11, a12, a13, a14)) : wX_arrive_120 post (nI r) (nI v) z0 f1 f2 f3 f4 f5 f6 f7 f8 f9 a1 a2 a3 a4 a5 a6 a7 a8 a9 a10 a11 a12 a13 a14 := by
  have E : a6 (nI r).toNatClampNeg / 100 = nI (h / 100) := by rw [nI_clamp (by omega), h6, sr_d100 (by omega)]
  have EC : (a6 (nI r).toNatClampNeg / 100).toNatClampNeg = h / 100 := by rw [E, nI_clamp (by omega)]
  refine ⟨by rcases hz with rfl | rfl <;> rfl, by rcases hz with rfl | rfl <;> rfl, pk_in r 14 hr, by decide, pk_in r 14 hr, by decide, pk_in (h / 100) 8 (by omega) E, pk_in (h / 100) 8 (by omega) E, ?_⟩
  rw [EC]
  exact nm_e H
theorem sr_arrive {post : St1 → Prop} (r m h z : Nat) (p : Nat → Nat) (s : Nat → Nat) (hr : r < 14) (hm : m ≤ 3) (h6 : a6 r = nI h) (hh : h < 800) (h7 : a7 r = nI z) (hz : z ≤ 3)
    (h8 : ∀ k, k < z → a8 (3 * r + k) = nI (p k) ∧ p k < 800) (h4 : f4 = nI m) (hs : sr_ex a14 m s) (hbh : sr_bd a14 m (h / 10 % 10) ∧ sr_bd a14 m (h % 10))
    (hbn : ∀ k, k < z → ¬ a9 (3 * r + k) = 0 → sr_bd a14 m (p k / 10 % 10) ∧ sr_bd a14 m (p k % 10))
    (H0 : (∃ k, k < z ∧ ¬ a9 (3 * r + k) = 0 ∧ sr_tb (a2 (p k / 100)) (sr_af s (p k)) = true) → post (f1, f2, f3, f4, f5, f6, f7, f8, f9, a1, a2, a3, a4, a5, a6, a7, a8, a9, a10, a11, a12, a13, a14))
    (H1 : (∀ k, k < z → ¬ a9 (3 * r + k) = 0 → sr_tb (a2 (p k / 100)) (sr_af s (p k)) = false) → ∀ w mt, (¬ mt = 0 → ¬ f8 = 0 ∨ nI (sr_af s h) = f7) → post (f1, f2, f3, f4, f5, w, f7, mt, f9, a1, a2, a3, vp_updL a4 (h / 100) (a4 (h / 100) ||| ((1 : Int64) <<< ((nI (sr_af s h)).toInt64 &&& 63))), a5, a6, a7, a8, a9, a10, a11, a12, a13, a14)) :
    wpX_arrive post (f1, f2, f3, f4, f5, f6, f7, f8, f9, a1, a2, a3, a4, a5, a6, a7, a8, a9, a10, a11, a12, a13, a14) (nI r) := by
  subst h4
  refine nm_r (e' := nI (4 * m)) (sr_4m m) (nm_r (e' := nI (3 * r)) (sr_3m r) ?_)
  have er : (nI r).toNatClampNeg = r := nI_clamp (by omega)
  have E7 : (3 : Int32) * nI r + a7 (nI r).toNatClampNeg = nI (3 * r + z) := by rw [er, h7, sr_3m, nI_add]
  have E6 : a6 (nI r).toNatClampNeg = nI h := by rw [er, h6]
  refine pk_loop (σ := Unit) (fun n i _ => wX_arrive_11 post (nI r) (nI (4 * m)) f1 f2 f3 (nI m) f5 f6 f7 f8 f9 a1 a2 a3 a4 a5 a6 a7 a8 a9 a10 a11 a12 a13 a14 n (nI (3 * r + i))) (fun i _ => ∀ k, k < i → ¬ a9 (3 * r + k) = 0 → sr_tb (a2 (p k / 100)) (sr_af s (p k)) = false) z 0 () (by omega) (fun k hk => absurd hk (by omega)) ?_ ?_
  · intro n _ hI
    refine ⟨pk_in r 14 hr, pk_le (3 * r + z) (3 * r + z) (fun _ => ⟨pk_in r 14 hr, ?_⟩) (fun g => absurd g (by omega)) E7⟩
    refine sr_fact m h s hm (by omega) hs hbh.1 hbh.2 ?_ rfl E6
    refine nm_e (br_c (fun g => br_c (fun g2 => ?_) (fun g2 => ?_)) (fun g => ?_))
    · exact sr_a120 r h (sr_af s h) (Or.inr rfl) hr h6 hh (H1 hI _ _ (fun _ => Or.inr g2))
    · exact sr_a120 r h (sr_af s h) (Or.inl rfl) hr h6 hh (H1 hI _ _ (fun z => absurd rfl z))
    · exact sr_a120 r h (sr_af s h) (Or.inr rfl) hr h6 hh (H1 hI _ _ (fun _ => Or.inl g))
  · intro n i _ hi hI hw
    have ei : (nI (3 * r + i)).toNatClampNeg = 3 * r + i := nI_clamp (by omega)
    have E8 : a8 (nI (3 * r + i)).toNatClampNeg = nI (p i) := by rw [ei]; exact (h8 i hi).1
    have hpi := (h8 i hi).2
    have E : a8 (nI (3 * r + i)).toNatClampNeg / 100 = nI (p i / 100) := by rw [E8, sr_d100 (by omega)]
    have EC : (a8 (nI (3 * r + i)).toNatClampNeg / 100).toNatClampNeg = p i / 100 := by rw [E, nI_clamp (by omega)]
    refine ⟨pk_in r 14 hr, pk_le (3 * r + z) (3 * r + i) (fun g => absurd g (by omega)) (fun _ => ⟨pk_in (3 * r + i) 42 (by omega), br_c (fun g => nm_r (nI_1 (3 * r + i)) (hw () ?_)) (fun g => ⟨pk_in (3 * r + i) 42 (by omega), ?_⟩)⟩) E7⟩
    · rw [ei] at g
      intro k hk hn
      by_cases e : k = i
      · rw [e] at hn; exact absurd g hn
      · exact hI k (by omega) hn
    · rw [ei] at g
      have hb := hbn i hi g
      refine sr_fact m (p i) s hm (by omega) hs hb.1 hb.2 ⟨pk_in (3 * r + i) 42 (by omega), by decide, pk_in (p i / 100) 8 (by omega) E, ?_⟩ rfl E8
      have hlt := sr_af_lt hs.1 (p i)
      refine sr_bitAt (sr_af s (p i)) (by omega) (fun hb => br_t rfl (H0 ⟨i, hi, g, ?_⟩)) (fun hb => br_f (by decide) (nm_r (nI_1 (3 * r + i)) (hw () ?_)))
      · rw [EC] at hb; exact hb
      · intro k hk hn
        by_cases e : k = i
        · rw [e]; rw [EC] at hb; exact hb
        · exact hI k (by omega) hn
end
end
section
/-! ===== counting assignments ===== -/
noncomputable def sr_cn (P : Nat → Prop) : Nat → Nat
  | 0 => 0
  | n + 1 => sr_cn P n + (@ite Nat (P n) (Classical.propDecidable (P n)) 1 0)
theorem sr_cn_le (P : Nat → Prop) (n : Nat) : sr_cn P n ≤ n := by
  induction n with
  | zero => exact Nat.le_refl 0
  | succ n ih => rw [sr_cn]; split <;> omega
theorem sr_cn_pos {P : Nat → Prop} {j : Nat} (h : P j) : ∀ n, j < n → 1 ≤ sr_cn P n := by
  intro n
  induction n with
  | zero => intro hj; omega
  | succ n ih =>
    intro hj
    rw [sr_cn]
    by_cases e : j = n
    · subst e; rw [if_pos h]; omega
    · have := ih (by omega); omega
theorem sr_cn_split {P Q R : Nat → Prop} (h : ∀ x, P x ↔ Q x ∨ R x) (hd : ∀ x, Q x → ¬ R x) (n : Nat) : sr_cn P n = sr_cn Q n + sr_cn R n := by
  induction n with
  | zero => rfl
  | succ n ih =>
    rw [sr_cn, sr_cn, sr_cn, ih]
    by_cases q : Q n
    · rw [if_pos q, if_neg (hd n q), if_pos ((h n).mpr (Or.inl q))]; omega
    · by_cases r : R n
      · rw [if_neg q, if_pos r, if_pos ((h n).mpr (Or.inr r))]; omega
      · rw [if_neg q, if_neg r, if_neg (fun z => ((h n).mp z).elim q r)]; omega
theorem sr_cn_congr {P Q : Nat → Prop} (h : ∀ x, P x ↔ Q x) (n : Nat) : sr_cn P n = sr_cn Q n := by
  rw [show P = Q from funext fun x => propext (h x)]
def sr_g (x v : Nat) : Nat := x / 6 ^ v % 6
noncomputable def sr_vol (b : Nat → Int32) (d : Nat) : Nat := sr_cn (fun x => sr_ex b d (sr_g x)) 1296
noncomputable def sr_V (b : Nat → Int32) (d p f : Nat) : Nat := sr_cn (fun x => sr_ex b d (sr_g x) ∧ f ≤ sr_af (sr_g x) p) 1296
theorem sr_sat1 {b : Nat → Int32} {d : Nat} (h : sr_en b d) : ∃ x, x < 1296 ∧ sr_ex b d (sr_g x) := by
  have c : ∀ v, v < 4 → ∃ t, t < 6 ∧ (b (4 * d + v) = -1 ∨ b (4 * d + v) = nI t) := fun v hv => by
    rcases h v hv with g | ⟨t, ht, g⟩
    · exact ⟨0, by omega, Or.inl g⟩
    · exact ⟨t, ht, Or.inr g⟩
  obtain ⟨t0, h0, g0⟩ := c 0 (by omega)
  obtain ⟨t1, h1, g1⟩ := c 1 (by omega)
  obtain ⟨t2, h2, g2⟩ := c 2 (by omega)
  obtain ⟨t3, h3, g3⟩ := c 3 (by omega)
  have e0 : sr_g (t0 + 6 * t1 + 36 * t2 + 216 * t3) 0 = t0 := by
    show (t0 + 6 * t1 + 36 * t2 + 216 * t3) / 1 % 6 = t0
    omega
  have e1 : sr_g (t0 + 6 * t1 + 36 * t2 + 216 * t3) 1 = t1 := by
    show (t0 + 6 * t1 + 36 * t2 + 216 * t3) / 6 % 6 = t1
    omega
  have e2 : sr_g (t0 + 6 * t1 + 36 * t2 + 216 * t3) 2 = t2 := by
    show (t0 + 6 * t1 + 36 * t2 + 216 * t3) / 36 % 6 = t2
    omega
  have e3 : sr_g (t0 + 6 * t1 + 36 * t2 + 216 * t3) 3 = t3 := by
    show (t0 + 6 * t1 + 36 * t2 + 216 * t3) / 216 % 6 = t3
    omega
  refine ⟨t0 + 6 * t1 + 36 * t2 + 216 * t3, by omega, fun v => Nat.mod_lt _ (by decide), fun v hv => ?_⟩
  have hv' : v = 0 ∨ v = 1 ∨ v = 2 ∨ v = 3 := by omega
  rcases hv' with rfl | rfl | rfl | rfl
  · rw [e0]; exact g0
  · rw [e1]; exact g1
  · rw [e2]; exact g2
  · rw [e3]; exact g3
theorem sr_ex_congr {b b' : Nat → Int32} {d : Nat} (h : ∀ j, j < 4 * d + 4 → b' j = b j) (s : Nat → Nat) : sr_ex b' d s ↔ sr_ex b d s := by
  constructor
  · intro hs
    refine ⟨hs.1, fun v hv => ?_⟩
    rw [← h (4 * d + v) (by omega)]
    exact hs.2 v hv
  · intro hs
    refine ⟨hs.1, fun v hv => ?_⟩
    rw [h (4 * d + v) (by omega)]
    exact hs.2 v hv
def sr_K : Nat → Nat
  | 0 => 0
  | k + 1 => 37 + 36 * sr_K k
/-! ===== the search, over any step predicate W ===== -/
def sr_NI (S : Nat → Int64) (P : Nat → Nat) (d : Nat) (b : Nat → Int32) : Prop :=
  sr_en b d ∧ (∀ s, sr_ex b d s → ∀ j, j < d → sr_tb (S j) (sr_af s (P j)) = true) ∧ (∀ j, j < d → sr_bd b d (P j / 10 % 10) ∧ sr_bd b d (P j % 10))
def sr_A (m h : Nat) (S : Nat → Int64) (P : Nat → Nat) (NG : (Nat → Nat) → Prop) (f7 : Int32) : Prop :=
  ∃ s : Nat → Nat, (∀ v, s v < 6) ∧ (∀ j, j < m → sr_tb (S j) (sr_af s (P j)) = true) ∧ NG s ∧ nI (sr_af s h) = f7
def sr_co (m h : Nat) (S : Nat → Int64) (P : Nat → Nat) (NG : (Nat → Nat) → Prop) (d f : Nat) (b : Nat → Int32) (b4 : Nat → Int64) : Prop :=
  ∀ s, sr_ex b d s → f ≤ sr_af s (P d) → (∀ j, d ≤ j → j < m → sr_tb (S j) (sr_af s (P j)) = true) → NG s → sr_tb (b4 (h / 100)) (sr_af s h) = true
def sr_Q (ρ : Nat) (A : Prop) (mt : Int32) (b4 : Nat → Int64) (mt' : Int32) (b4' : Nat → Int64) : Prop :=
  (¬ mt' = 0 → ¬ mt = 0 ∨ A) ∧ (∀ x, ¬ x = ρ → b4' x = b4 x) ∧ (∀ i, sr_tb (b4 ρ) i = true → sr_tb (b4' ρ) i = true) ∧ (∀ i, sr_tb (b4' ρ) i = true → sr_tb (b4 ρ) i = true ∨ i < 36)
theorem sr_Q_refl {ρ : Nat} {A : Prop} {mt : Int32} {b4 : Nat → Int64} : sr_Q ρ A mt b4 mt b4 := ⟨fun z => Or.inl z, fun _ _ => rfl, fun _ z => z, fun _ z => Or.inl z⟩
theorem sr_Q_trans {ρ : Nat} {A : Prop} {mt mt1 mt2 : Int32} {b4 b41 b42 : Nat → Int64} (h : sr_Q ρ A mt b4 mt1 b41) (k : sr_Q ρ A mt1 b41 mt2 b42) : sr_Q ρ A mt b4 mt2 b42 :=
  ⟨fun z => (k.1 z).elim h.1 Or.inr, fun x hx => (k.2.1 x hx).trans (h.2.1 x hx), fun i z => k.2.2.1 i (h.2.2.1 i z), fun i z => (k.2.2.2 i z).elim (h.2.2.2 i) Or.inr⟩
theorem sr_Q_put {ρ : Nat} {A : Prop} {mt mt' : Int32} {b4 : Nat → Int64} {v : Nat} (hm : ¬ mt' = 0 → ¬ mt = 0 ∨ A) (hv : v < 36) : sr_Q ρ A mt b4 mt' (vp_updL b4 ρ (b4 ρ ||| ((1 : Int64) <<< ((nI v).toInt64 &&& 63)))) := by
  refine ⟨hm, fun x hx => pk_uLn hx, fun i z => ?_, fun i z => ?_⟩
  · rw [pk_uLs, sr_or, z, Bool.true_or]
  · rw [pk_uLs, sr_or, sr_bit1 (by omega)] at z
    by_cases e : v = i
    · right; omega
    · left
      rw [decide_eq_false e, Bool.or_false] at z
      exact z
section
variable {W : Nat → Int32 → Nat → Int32 → Int32 → (Nat → Int64) → (Nat → Int32) → (Nat → Int32) → Prop} {m h : Nat} {S : Nat → Int64} {P : Nat → Nat} {NG : (Nat → Nat) → Prop} {f7 : Int32}
theorem sr_node
    (hNG : ∀ b s s', sr_NI S P m b → sr_ex b m s → sr_ex b m s' → (NG s → NG s') ∧ sr_af s h = sr_af s' h)
    (S0 : ∀ n T wc mt b4 c b s, T < 60000 → sr_NI S P m b → sr_ex b m s → (¬ NG s → W n (nI m + (-1)) (T + 1) wc mt b4 c b) →
      (NG s → ∀ w mt', (¬ mt' = 0 → ¬ mt = 0 ∨ nI (sr_af s h) = f7) → W n (nI m + (-1)) (T + 1) w mt' (vp_updL b4 (h / 100) (b4 (h / 100) ||| ((1 : Int64) <<< ((nI (sr_af s h)).toInt64 &&& 63)))) c b) → W (n + 1) (nI m) T wc mt b4 c b)
    (S1 : ∀ n T wc mt b4 c b d, T < 60000 → d < m → c d = nI 36 → W n (nI d + (-1)) (T + 1) wc mt b4 c b → W (n + 1) (nI d) T wc mt b4 c b)
    (S2 : ∀ n T wc mt b4 c b d f, T < 60000 → d < m → f < 36 → c d = nI f → sr_en b d →
      (sr_tb (S d) f = true → ∀ b1, sr_en b1 (d + 1) → (∀ j, j < 4 * d + 4 → b1 j = b j) → (∀ s, sr_ex b1 (d + 1) s ↔ sr_ex b d s ∧ sr_af s (P d) = f) → sr_bd b1 (d + 1) (P d / 10 % 10) → sr_bd b1 (d + 1) (P d % 10) → (∀ t, sr_bd b d t → sr_bd b1 (d + 1) t) → W n (nI (d + 1)) (T + 1) wc mt b4 (upd (upd c d (nI (f + 1))) (d + 1) (nI 0)) b1) →
      ((sr_tb (S d) f = true → ∀ s, sr_ex b d s → ¬ sr_af s (P d) = f) → ∀ b1, (∀ j, j < 4 * d + 4 → b1 j = b j) → W n (nI d) (T + 1) wc mt b4 (upd c d (nI (f + 1))) b1) → W (n + 1) (nI d) T wc mt b4 c b) :
    ∀ k d, d + k = m → ∀ N T wc mt b4 c b, sr_NI S P d b → (0 < k → c d = nI 0) → sr_K k + sr_vol b d ≤ N → T + (sr_K k + sr_vol b d) ≤ 60000 →
      (∀ t wc' mt' b4' c' b', t ≤ sr_K k + sr_vol b d → sr_Q (h / 100) (sr_A m h S P NG f7) mt b4 mt' b4' → sr_co m h S P NG d 0 b b4' → (∀ j, j < d → c' j = c j) → (∀ j, j < 4 * d + 4 → b' j = b j) → W (N - t) (nI d + (-1)) (T + t) wc' mt' b4' c' b') →
      W N (nI d) T wc mt b4 c b := by
  intro k
  induction k with
  | zero =>
    intro d hd N T wc mt b4 c b hN _ hB hT H
    obtain rfl : d = m := by omega
    obtain ⟨x, hx, hs⟩ := sr_sat1 hN.1
    have hv : 1 ≤ sr_vol b d := sr_cn_pos hs 1296 hx
    have hK : sr_K 0 = 0 := rfl
    obtain ⟨N', rfl⟩ : ∃ N', N = N' + 1 := ⟨N - 1, by omega⟩
    refine S0 N' T wc mt b4 c b (sr_g x) (by omega) hN hs (fun g => ?_) (fun g w mt' hm => ?_)
    · refine H 1 wc mt b4 c b (by omega) sr_Q_refl (fun s hs' _ _ hn => ?_) (fun _ _ => rfl) (fun _ _ => rfl)
      exact absurd ((hNG b s (sr_g x) hN hs' hs).1 hn) g
    · refine H 1 w mt' _ c b (by omega) (sr_Q_put (fun z => ?_) (sr_af_lt hs.1 h)) (fun s hs' _ _ hn => ?_) (fun _ _ => rfl) (fun _ _ => rfl)
      · rcases hm z with q | q
        · exact Or.inl q
        · exact Or.inr ⟨sr_g x, hs.1, fun j hj => hN.2.1 _ hs j hj, g, q⟩
      · have := sr_af_lt hs.1 h
        rw [pk_uLs, sr_or, sr_bit1 (by omega), (hNG b s (sr_g x) hN hs' hs).2, decide_eq_true rfl, Bool.or_true]
  | succ k ih =>
    intro d hd
    have inner : ∀ g f, f + g = 36 → ∀ N T wc mt b4 c b, sr_NI S P d b → c d = nI f → (g + 1) + g * sr_K k + sr_V b d (P d) f ≤ N → T + ((g + 1) + g * sr_K k + sr_V b d (P d) f) ≤ 60000 →
        (∀ t wc' mt' b4' c' b', t ≤ (g + 1) + g * sr_K k + sr_V b d (P d) f → sr_Q (h / 100) (sr_A m h S P NG f7) mt b4 mt' b4' → sr_co m h S P NG d f b b4' → (∀ j, j < d → c' j = c j) → (∀ j, j < 4 * d + 4 → b' j = b j) → W (N - t) (nI d + (-1)) (T + t) wc' mt' b4' c' b') →
        W N (nI d) T wc mt b4 c b := by
      intro g
      induction g with
      | zero =>
        intro f hf N T wc mt b4 c b hN hc hB hT H
        obtain rfl : f = 36 := by omega
        obtain ⟨N', rfl⟩ : ∃ N', N = N' + 1 := ⟨N - 1, by omega⟩
        refine S1 N' T wc mt b4 c b d (by omega) (by omega) hc ?_
        refine H 1 wc mt b4 c b (by omega) sr_Q_refl (fun s hs h36 _ _ => ?_) (fun _ _ => rfl) (fun _ _ => rfl)
        have := sr_af_lt hs.1 (P d)
        omega
      | succ g ihg =>
        intro f hf N T wc mt b4 c b hN hc hB hT H
        obtain ⟨N', rfl⟩ : ∃ N', N = N' + 1 := ⟨N - 1, by omega⟩
        have hgk : (g + 1) * sr_K k = g * sr_K k + sr_K k := Nat.succ_mul g _
        have hV : sr_V b d (P d) f = sr_V b d (P d) (f + 1) + sr_cn (fun x => sr_ex b d (sr_g x) ∧ sr_af (sr_g x) (P d) = f) 1296 := by
          refine sr_cn_split (fun x => ?_) (fun x q r => ?_) 1296
          · constructor
            · intro q
              by_cases e : sr_af (sr_g x) (P d) = f
              · exact Or.inr ⟨q.1, e⟩
              · exact Or.inl ⟨q.1, by have := q.2; omega⟩
            · rintro (q | q)
              · exact ⟨q.1, by have := q.2; omega⟩
              · exact ⟨q.1, by have := q.2; omega⟩
          · have := q.2
            have := r.2
            omega
        refine S2 N' T wc mt b4 c b d f (by omega) (by omega) (by omega) hc hN.1 (fun hb b1 e1 e2 e3 e4 e5 e6 => ?_) (fun h0 b1 e2 => ?_)
        · have hvol : sr_vol b1 (d + 1) = sr_cn (fun x => sr_ex b d (sr_g x) ∧ sr_af (sr_g x) (P d) = f) 1296 := sr_cn_congr (fun x => e3 _) 1296
          have hN1 : sr_NI S P (d + 1) b1 := by
            refine ⟨e1, fun s hs j hj => ?_, fun j hj => ?_⟩
            · have q := (e3 s).mp hs
              by_cases e : j = d
              · rw [e, q.2]; exact hb
              · exact hN.2.1 s q.1 j (by omega)
            · by_cases e : j = d
              · rw [e]; exact ⟨e4, e5⟩
              · have q := hN.2.2 j (by omega)
                exact ⟨e6 _ q.1, e6 _ q.2⟩
          refine ih (d + 1) (by omega) N' (T + 1) wc mt b4 _ b1 hN1 (fun _ => pk_us) (by omega) (by omega) ?_
          intro t1 wc1 mt1 b41 c1 b1' ht1 hQ1 hco1 hc1 hb1'
          rw [pk_m1]
          have fr : ∀ j, j < 4 * d + 4 → b1' j = b j := fun j hj => by rw [hb1' j (by omega), e2 j hj]
          have hex : ∀ s, sr_ex b1' d s ↔ sr_ex b d s := sr_ex_congr fr
          have hV' : sr_V b1' d (P d) (f + 1) = sr_V b d (P d) (f + 1) := sr_cn_congr (fun x => and_congr_left fun _ => hex _) 1296
          have hN2 : sr_NI S P d b1' := by
            refine ⟨fun v hv => ?_, fun s hs j hj => hN.2.1 s ((hex s).mp hs) j hj, fun j hj => ⟨fun h4 => ?_, fun h4 => ?_⟩⟩
            · rw [fr _ (by omega)]; exact hN.1 v hv
            · rw [fr _ (by omega)]; exact (hN.2.2 j hj).1 h4
            · rw [fr _ (by omega)]; exact (hN.2.2 j hj).2 h4
          refine ihg (f + 1) (by omega) (N' - t1) (T + 1 + t1) wc1 mt1 b41 c1 b1' hN2 ?_ (by omega) (by omega) ?_
          · rw [hc1 d (by omega), pk_un (by omega), pk_us]
          · intro t2 wc2 mt2 b42 c2 b2 ht2 hQ2 hco2 hc2 hb2
            have key := H (1 + t1 + t2) wc2 mt2 b42 c2 b2 (by omega) (sr_Q_trans hQ1 hQ2) (fun s hs hf' hpl hn => ?_) (fun j hj => ?_) (fun j hj => ?_)
            · rw [show N' + 1 - (1 + t1 + t2) = N' - t1 - t2 by omega, show T + (1 + t1 + t2) = T + 1 + t1 + t2 by omega] at key
              exact key
            · by_cases e : sr_af s (P d) = f
              · exact hQ2.2.2.1 _ (hco1 s ((e3 s).mpr ⟨hs, e⟩) (Nat.zero_le _) (fun j hj hj' => hpl j (by omega) hj') hn)
              · exact hco2 s ((hex s).mpr hs) (by omega) hpl hn
            · rw [hc2 j hj, hc1 j (by omega), pk_un (by omega), pk_un (by omega)]
            · rw [hb2 j hj, fr j hj]
        · have hex : ∀ s, sr_ex b1 d s ↔ sr_ex b d s := sr_ex_congr e2
          have hV' : sr_V b1 d (P d) (f + 1) = sr_V b d (P d) (f + 1) := sr_cn_congr (fun x => and_congr_left fun _ => hex _) 1296
          have hN2 : sr_NI S P d b1 := by
            refine ⟨fun v hv => ?_, fun s hs j hj => hN.2.1 s ((hex s).mp hs) j hj, fun j hj => ⟨fun h4 => ?_, fun h4 => ?_⟩⟩
            · rw [e2 _ (by omega)]; exact hN.1 v hv
            · rw [e2 _ (by omega)]; exact (hN.2.2 j hj).1 h4
            · rw [e2 _ (by omega)]; exact (hN.2.2 j hj).2 h4
          refine ihg (f + 1) (by omega) N' (T + 1) wc mt b4 _ b1 hN2 pk_us (by omega) (by omega) ?_
          intro t2 wc2 mt2 b42 c2 b2 ht2 hQ2 hco2 hc2 hb2
          have key := H (1 + t2) wc2 mt2 b42 c2 b2 (by omega) hQ2 (fun s hs hf' hpl hn => ?_) (fun j hj => ?_) (fun j hj => ?_)
          · rw [show N' + 1 - (1 + t2) = N' - t2 by omega, show T + (1 + t2) = T + 1 + t2 by omega] at key
            exact key
          · by_cases e : sr_af s (P d) = f
            · exact absurd e (h0 (by have q := hpl d (Nat.le_refl d) (by omega); rw [e] at q; exact q) s hs)
            · exact hco2 s ((hex s).mpr hs) (by omega) hpl hn
          · rw [hc2 j hj, pk_un (by omega)]
          · rw [hb2 j hj, e2 j hj]
    intro N T wc mt b4 c b hN hc hB hT H
    have hV0 : sr_V b d (P d) 0 = sr_vol b d := sr_cn_congr (fun x => and_iff_left (Nat.zero_le _)) 1296
    have hK : sr_K (k + 1) = 37 + 36 * sr_K k := rfl
    have hBB : (36 + 1) + 36 * sr_K k + sr_V b d (P d) 0 = sr_K (k + 1) + sr_vol b d := by rw [hV0, hK]
    refine inner 36 0 rfl N T wc mt b4 c b hN (hc (by omega)) (by omega) (by omega) ?_
    rw [hBB]
    exact H
end
end
section
/-! ===== join ===== -/
def sr_iv (t q : Nat) : Prop := t = q / 10 % 10 ∨ t = q % 10
/-- s makes the body of rule r true; the plain atom at place sp ranges over fresh -/
def sr_sat (a2 a3 : Nat → Int64) (a9 : Nat → Int32) (sp : Int32) (r z : Nat) (p : Nat → Nat) (s : Nat → Nat) : Prop :=
  (∀ v, s v < 6) ∧ (∀ k, k < z → a9 (3 * r + k) = 0 → sr_tb (sr_S a2 a3 sp (3 * r + k) (p k)) (sr_af s (p k)) = true) ∧ (∀ k, k < z → ¬ a9 (3 * r + k) = 0 → sr_tb (a2 (p k / 100)) (sr_af s (p k)) = false)
/-- rule r, as it lies in the arrays -/
def sr_rl (a6 a7 a8 a9 : Nat → Int32) (r h z : Nat) (p : Nat → Nat) : Prop :=
  a6 r = nI h ∧ h < 800 ∧ a7 r = nI z ∧ z ≤ 3 ∧ (∀ k, k < z → a8 (3 * r + k) = nI (p k) ∧ p k < 800) ∧
  (∀ t, t < 4 → (sr_iv t h ∨ ∃ k, k < z ∧ ¬ a9 (3 * r + k) = 0 ∧ sr_iv t (p k)) → ∃ k, k < z ∧ a9 (3 * r + k) = 0 ∧ sr_iv t (p k))
theorem sr_tv_eq {b : Nat → Int32} {d t : Nat} {s s' : Nat → Nat} (hs : sr_ex b d s) (hs' : sr_ex b d s') (hb : sr_bd b d t) : sr_tv s t = sr_tv s' t := by
  unfold sr_tv
  by_cases h : t < 4
  · rw [if_pos h, if_pos h]
    have e := (hs.2 t h).resolve_left (hb h)
    have e' := (hs'.2 t h).resolve_left (hb h)
    have := hs.1 t
    have := hs'.1 t
    exact (nI_eq (by omega) (by omega)).mp (e.symm.trans e')
  · rw [if_neg h, if_neg h]
theorem sr_af_eq {b : Nat → Int32} {d q : Nat} {s s' : Nat → Nat} (hs : sr_ex b d s) (hs' : sr_ex b d s') (h1 : sr_bd b d (q / 10 % 10)) (h2 : sr_bd b d (q % 10)) : sr_af s q = sr_af s' q := by
  unfold sr_af
  rw [sr_tv_eq hs hs' h1, sr_tv_eq hs hs' h2]
section
variable {f1 f2 f3 f4 f5 f6 f7 f8 f9 : Int32} {a1 a2 a3 a4 a5 : Nat → Int64} {a6 a7 a8 a9 a10 a11 a12 a13 a14 : Nat → Int32}
theorem sr_j100 {post : St1 → Prop} (r m h z : Nat) (p : Nat → Nat) (hr : r < 14) (hm : m ≤ 3) (hR : sr_rl a6 a7 a8 a9 r h z p)
    (hp1 : ∀ j, j < m → ∃ k, k < z ∧ a12 j = nI (3 * r + k) ∧ a9 (3 * r + k) = 0) (hp2 : ∀ k, k < z → a9 (3 * r + k) = 0 → ∃ j, j < m ∧ a12 j = nI (3 * r + k))
    (hb : ∀ v, v < 4 → a14 v = -1) (hc : a13 0 = 0) (h4 : f4 = nI m)
    (H : ∀ wc mt b4 b13 b14, sr_Q (h / 100) (∃ s, sr_sat a2 a3 a9 f5 r z p s ∧ nI (sr_af s h) = f7) f8 a4 mt b4 → (∀ s, sr_sat a2 a3 a9 f5 r z p s → sr_tb (b4 (h / 100)) (sr_af s h) = true) → post (f1, f2, f3, f4, f5, wc, f7, mt, f9, a1, a2, a3, b4, a5, a6, a7, a8, a9, a10, a11, a12, b13, b14)) :
    ∃ n, wX_join_100 post (nI r) n 0 0 f1 f2 f3 f4 f5 f6 f7 f8 f9 a1 a2 a3 a4 a5 a6 a7 a8 a9 a10 a11 a12 a13 a14 := by
  subst h4
  obtain ⟨h6, hh, h7, hz, h8, hsf⟩ := hR
  have hq : ∀ j, j < m → (a12 j).toNatClampNeg - 3 * r < z ∧ a12 j = nI (3 * r + ((a12 j).toNatClampNeg - 3 * r)) ∧ a9 (3 * r + ((a12 j).toNatClampNeg - 3 * r)) = 0 := by
    intro j hj
    obtain ⟨k, hk, e, e9⟩ := hp1 j hj
    have ek : (a12 j).toNatClampNeg - 3 * r = k := by rw [e, nI_clamp (by omega)]; omega
    rw [ek]
    exact ⟨hk, e, e9⟩
  have hq' : ∀ k, k < z → a9 (3 * r + k) = 0 → ∃ j, j < m ∧ (a12 j).toNatClampNeg - 3 * r = k := by
    intro k hk h9
    obtain ⟨j, hj, e⟩ := hp2 k hk h9
    exact ⟨j, hj, by rw [e, nI_clamp (by omega)]; omega⟩
  generalize hqd : (fun j => (a12 j).toNatClampNeg - 3 * r) = q at *
  have hq1 : ∀ j, j < m → q j < z ∧ a12 j = nI (3 * r + q j) ∧ a9 (3 * r + q j) = 0 := by
    intro j hj
    rw [← hqd]
    exact hq j hj
  have hq2 : ∀ k, k < z → a9 (3 * r + k) = 0 → ∃ j, j < m ∧ q j = k := by
    intro k hk h9
    rw [← hqd]
    exact hq' k hk h9
  have hbd : ∀ b, sr_NI (fun j => sr_S a2 a3 f5 (3 * r + q j) (p (q j))) (fun j => p (q j)) m b → ∀ t, t < 4 → (sr_iv t h ∨ ∃ k, k < z ∧ ¬ a9 (3 * r + k) = 0 ∧ sr_iv t (p k)) → ¬ b (4 * m + t) = -1 := by
    intro b hN t ht hv
    obtain ⟨k, hk, h9, hi⟩ := hsf t ht hv
    obtain ⟨j, hj, e⟩ := hq2 k hk h9
    have g := hN.2.2 j hj
    dsimp only at g
    rw [e] at g
    rcases hi with hi | hi
    · rw [hi]; exact g.1 (by omega)
    · rw [hi]; exact g.2 (by omega)
  have hbh : ∀ b, sr_NI (fun j => sr_S a2 a3 f5 (3 * r + q j) (p (q j))) (fun j => p (q j)) m b → sr_bd b m (h / 10 % 10) ∧ sr_bd b m (h % 10) := fun b hN =>
    ⟨fun h4 => hbd b hN _ h4 (Or.inl (Or.inl rfl)), fun h4 => hbd b hN _ h4 (Or.inl (Or.inr rfl))⟩
  have hbn : ∀ b, sr_NI (fun j => sr_S a2 a3 f5 (3 * r + q j) (p (q j))) (fun j => p (q j)) m b → ∀ k, k < z → ¬ a9 (3 * r + k) = 0 → sr_bd b m (p k / 10 % 10) ∧ sr_bd b m (p k % 10) := fun b hN k hk h9 =>
    ⟨fun h4 => hbd b hN _ h4 (Or.inr ⟨k, hk, h9, Or.inl rfl⟩), fun h4 => hbd b hN _ h4 (Or.inr ⟨k, hk, h9, Or.inr rfl⟩)⟩
  have hen : sr_NI (fun j => sr_S a2 a3 f5 (3 * r + q j) (p (q j))) (fun j => p (q j)) 0 a14 :=
    ⟨fun v hv => Or.inl (by rw [Nat.mul_zero, Nat.zero_add]; exact hb v hv), fun _ _ j hj => absurd hj (by omega), fun j hj => absurd hj (by omega)⟩
  have hvol : sr_vol a14 0 ≤ 1296 := sr_cn_le _ _
  have hK : sr_K m ≤ 49321 := by
    have : m = 0 ∨ m = 1 ∨ m = 2 ∨ m = 3 := by omega
    rcases this with rfl | rfl | rfl | rfl <;> decide
  refine ⟨sr_K m + sr_vol a14 0 + 1, ?_⟩
  refine sr_node (W := fun n x3 T wc mt b4 c b => wX_join_100 post (nI r) n x3 (nI T) f1 f2 f3 (nI m) f5 wc f7 mt f9 a1 a2 a3 b4 a5 a6 a7 a8 a9 a10 a11 a12 c b) (m := m) (h := h) (S := fun j => sr_S a2 a3 f5 (3 * r + q j) (p (q j))) (P := fun j => p (q j))
    (NG := fun s => ∀ k, k < z → ¬ a9 (3 * r + k) = 0 → sr_tb (a2 (p k / 100)) (sr_af s (p k)) = false) (f7 := f7) ?_ ?_ ?_ ?_ m 0 (by omega) _ 0 f6 f8 a4 a13 a14 hen (fun _ => hc) (by omega) (by omega) ?_
  · intro b s s' hN hs hs'
    refine ⟨fun g k hk h9 => ?_, sr_af_eq hs hs' (hbh b hN).1 (hbh b hN).2⟩
    have q := hbn b hN k hk h9
    rw [← sr_af_eq hs hs' q.1 q.2]
    exact g k hk h9
  · intro n T wc mt b4 c b s hT hN hs G0 G1
    refine pk_le 60000 T (fun g => absurd g (by omega)) (fun _ => br_f (nI_pos (by omega)) (br_t rfl ?_))
    refine sr_arrive r m h z p s hr hm h6 hh h7 hz h8 rfl hs (hbh b hN) (hbn b hN) (fun g => ?_) (fun g w mt' hmt => ?_)
    · refine nm_e (nm_r (nI_1 T) (G0 (fun hn => ?_)))
      obtain ⟨k, hk, h9, e⟩ := g
      rw [hn k hk h9] at e
      exact absurd e (by decide)
    · exact nm_e (nm_r (nI_1 T) (G1 g w mt' hmt))
  · intro n T wc mt b4 c b d hT hd h36 G
    refine pk_le 60000 T (fun g => absurd g (by omega)) (fun _ => br_f (nI_pos (by omega)) (pk_eq d m (fun g => absurd g (by omega)) (fun _ => ⟨pk_in d 4 (by omega), br_t ?_ (nm_e (nm_r (nI_1 T) G))⟩)))
    rw [nI_clamp (by omega), h36]
    rfl
  · intro n T wc mt b4 c b d f hT hd hf hcd he G1 G0
    have ed : (nI d).toNatClampNeg = d := nI_clamp (by omega)
    have ec : c (nI d).toNatClampNeg = nI f := by rw [ed, hcd]
    obtain ⟨k1, k2, k3⟩ := hq1 d hd
    refine pk_le 60000 T (fun g => absurd g (by omega)) (fun _ => br_f (nI_pos (by omega)) (pk_eq d m (fun g => absurd g (by omega)) (fun _ => ⟨pk_in d 4 (by omega), pk_eq f 36 (fun g => absurd g (by omega)) (fun _ => ⟨pk_in d 4 (by omega), nm_r ec ⟨pk_in d 4 (by omega), pk_in d 4 (by omega), nm_r (e' := upd c d (nI (f + 1))) ?_ ?_⟩⟩) ec⟩)))
    · rw [ed, hcd, nI_1]
    · refine sr_bind d f (3 * r + q d) (p (q d)) (by omega) hf k2 (by omega) (h8 _ k1).1 (h8 _ k1).2 he (fun g b1 g1 g2 g3 g4 g5 g6 => ?_) (fun g b1 g2 => ?_)
      · refine br_f (by decide) (nm_r (nI_1 d) ⟨pk_in (d + 1) 4 (by omega), nm_r (e' := upd (upd c d (nI (f + 1))) (d + 1) (nI 0)) ?_ (nm_r (nI_1 T) (G1 g b1 g1 g2 g3 g4 g5 g6))⟩)
        rw [nI_clamp (by omega)]
        rfl
      · exact br_t rfl (nm_r (nI_1 T) (G0 g b1 g2))
  · intro t wc mt b4 c b ht hQ hco _ _
    have hfin : post (f1, f2, f3, (nI m), f5, wc, f7, mt, f9, a1, a2, a3, b4, a5, a6, a7, a8, a9, a10, a11, a12, c, b) := by
      refine H wc mt b4 c b ⟨fun z => ?_, hQ.2⟩ (fun s hs => ?_)
      · rcases hQ.1 z with g | ⟨s, g1, g2, g3, g4⟩
        · exact Or.inl g
        · refine Or.inr ⟨s, ⟨g1, fun k hk h9 => ?_, g3⟩, g4⟩
          obtain ⟨j, hj, e⟩ := hq2 k hk h9
          have q' := g2 j hj
          dsimp only at q'
          rw [e] at q'
          exact q'
      · refine hco s ⟨hs.1, fun v hv => Or.inl (by rw [Nat.mul_zero, Nat.zero_add]; exact hb v hv)⟩ (Nat.zero_le _) (fun j _ hj => ?_) hs.2.2
        exact hs.2.1 (q j) (hq1 j hj).1 (hq1 j hj).2.2
    obtain ⟨n, hn⟩ : ∃ n, sr_K m + sr_vol a14 0 + 1 - t = n + 1 := ⟨sr_K m + sr_vol a14 0 - t, by omega⟩
    rw [hn, Nat.zero_add]
    exact pk_le 60000 t (fun _ => hfin) (fun _ => br_t (by decide) hfin)
theorem sr_join {post : St1 → Prop} {sp : Int32} (r h z : Nat) (p : Nat → Nat) (hr : r < 14) (hR : sr_rl a6 a7 a8 a9 r h z p)
    (H : ∀ ps wc mt b4 b12 b13 b14, sr_Q (h / 100) (∃ s, sr_sat a2 a3 a9 sp r z p s ∧ nI (sr_af s h) = f7) f8 a4 mt b4 → (∀ s, sr_sat a2 a3 a9 sp r z p s → sr_tb (b4 (h / 100)) (sr_af s h) = true) → post (f1, f2, f3, ps, sp, wc, f7, mt, f9, a1, a2, a3, b4, a5, a6, a7, a8, a9, a10, a11, b12, b13, b14)) :
    wpX_join post (f1, f2, f3, f4, f5, f6, f7, f8, f9, a1, a2, a3, a4, a5, a6, a7, a8, a9, a10, a11, a12, a13, a14) (nI r) sp := by
  have h7 := hR.2.2.1
  have hz := hR.2.2.2.1
  have er : (nI r).toNatClampNeg = r := nI_clamp (by omega)
  have E7 : (3 : Int32) * nI r + a7 (nI r).toNatClampNeg = nI (3 * r + z) := by rw [er, h7, sr_3m, nI_add]
  refine nm_r (e' := nI (3 * r)) (sr_3m r) ?_
  refine pk_loop (σ := Nat × (Nat → Int32)) (fun n i u => wX_join_19 post (nI r) f1 f2 f3 sp 0 f7 f8 f9 n (nI (3 * r + i)) (nI u.1) a1 a2 a3 a4 a5 a6 a7 a8 a9 a10 a11 u.2 a13 a14)
    (fun i u => u.1 ≤ i ∧ (∀ j, j < u.1 → ∃ k, k < i ∧ u.2 j = nI (3 * r + k) ∧ a9 (3 * r + k) = 0) ∧ (∀ k, k < i → a9 (3 * r + k) = 0 → ∃ j, j < u.1 ∧ u.2 j = nI (3 * r + k))) z 0 (0, a12) (by omega)
    ⟨Nat.le_refl 0, fun j hj => absurd hj (by omega), fun k hk => absurd hk (by omega)⟩ ?_ ?_
  · rintro n ⟨m, b12⟩ ⟨hm, hp1, hp2⟩
    dsimp only at hm hp1 hp2
    refine ⟨pk_in r 14 hr, pk_le (3 * r + z) (3 * r + z) (fun _ => ?_) (fun g => absurd g (by omega)) E7⟩
    refine pk_loop (σ := Nat → Int32) (fun n i b => wX_join_70 post (nI r) f1 f2 f3 (nI m) sp 0 f7 f8 f9 n (nI i) a1 a2 a3 a4 a5 a6 a7 a8 a9 a10 a11 b12 a13 b) (fun i b => ∀ v, v < i → b v = -1) 4 0 a14 (by omega) (fun v hv => absurd hv (by omega)) ?_ ?_
    · intro n b hb
      refine pk_le 4 4 (fun _ => nm_e ?_) (fun g => absurd g (by omega))
      refine sr_j100 r m h z p hr (by omega) hR hp1 hp2 hb pk_us rfl (fun wc mt b4 b13 b14 hQ hco => H _ wc mt b4 b12 b13 b14 hQ hco)
    · intro n i b hi hb hw
      refine pk_le 4 i (fun g => absurd g (by omega)) (fun _ => ⟨pk_in i 16 (by omega), nm_r (e' := upd b i (-1)) (by rw [nI_clamp (by omega)]) (nm_r (nI_1 i) (hw _ (fun v hv => ?_)))⟩)
      by_cases e : v = i
      · rw [e, pk_us]
      · rw [pk_un e]; exact hb v (by omega)
  · rintro n i ⟨m, b12⟩ hi ⟨hm, hp1, hp2⟩ hw
    dsimp only at hm hp1 hp2
    have ei : (nI (3 * r + i)).toNatClampNeg = 3 * r + i := nI_clamp (by omega)
    refine ⟨pk_in r 14 hr, pk_le (3 * r + z) (3 * r + i) (fun g => absurd g (by omega)) (fun _ => ⟨pk_in (3 * r + i) 42 (by omega), br_c (fun g => ?_) (fun g => ?_)⟩) E7⟩
    · rw [ei] at g
      refine ⟨pk_in m 3 (by omega), nm_r (e' := upd b12 m (nI (3 * r + i))) (by rw [nI_clamp (by omega)]) (nm_r (nI_1 m) (nm_r (nI_1 (3 * r + i)) (hw (m + 1, upd b12 m (nI (3 * r + i))) ⟨?_, ?_, ?_⟩)))⟩
      · dsimp only; omega
      · dsimp only
        intro j hj
        by_cases e : j = m
        · exact ⟨i, by omega, by rw [e, pk_us], g⟩
        · obtain ⟨k, hk, e1, e2⟩ := hp1 j (by omega)
          exact ⟨k, by omega, by rw [pk_un e]; exact e1, e2⟩
      · dsimp only
        intro k hk h9
        by_cases e : k = i
        · exact ⟨m, by omega, by rw [e, pk_us]⟩
        · obtain ⟨j, hj, e1⟩ := hp2 k (by omega) h9
          exact ⟨j, by omega, by rw [pk_un (by omega)]; exact e1⟩
    · rw [ei] at g
      refine nm_r (nI_1 (3 * r + i)) (hw (m, b12) ⟨?_, ?_, ?_⟩)
      · dsimp only; omega
      · dsimp only
        intro j hj
        obtain ⟨k, hk, e1, e2⟩ := hp1 j hj
        exact ⟨k, by omega, e1, e2⟩
      · dsimp only
        intro k hk h9
        by_cases e : k = i
        · rw [e] at h9; exact absurd h9 g
        · exact hp2 k (by omega) h9
end
end
section
/-! ===== the rules, the closure ===== -/
def sr_n (a : Nat → Int32) (k : Nat) : Nat := (a k).toNatClampNeg
def sr_ok (a6 a7 a8 a9 : Nat → Int32) (r : Nat) : Prop :=
  sr_rl a6 a7 a8 a9 r (sr_n a6 r) (sr_n a7 r) (fun k => sr_n a8 (3 * r + k)) ∧ ∀ k, k < sr_n a7 r → sr_n a8 (3 * r + k) / 200 ≤ sr_n a6 r / 200
/-- s makes the body of rule r true over the facts F -/
def sr_ps (F : Nat → Int64) (a7 a8 a9 : Nat → Int32) (r : Nat) (s : Nat → Nat) : Prop :=
  (∀ v, s v < 6) ∧ ∀ k, k < sr_n a7 r → (a9 (3 * r + k) = 0 → sr_tb (F (sr_n a8 (3 * r + k) / 100)) (sr_af s (sr_n a8 (3 * r + k))) = true) ∧ (¬ a9 (3 * r + k) = 0 → sr_tb (F (sr_n a8 (3 * r + k) / 100)) (sr_af s (sr_n a8 (3 * r + k))) = false)
def sr_cl (F : Nat → Int64) (a6 a7 a8 a9 : Nat → Int32) (r : Nat) : Prop := ∀ s, sr_ps F a7 a8 a9 r s → sr_tb (F (sr_n a6 r / 100)) (sr_af s (sr_n a6 r)) = true
def sr_LI (c l : Nat) (a1 F : Nat → Int64) (a6 a7 a8 a9 : Nat → Int32) : Prop :=
  (∀ x, x < 8 → ∀ i, sr_tb (a1 x) i = true → sr_tb (F x) i = true) ∧ (∀ x, x < 8 → (∀ r, r < c → ¬ sr_n a6 r / 100 = x) → F x = a1 x) ∧ (∀ r, r < c → sr_n a6 r / 200 < l → sr_cl F a6 a7 a8 a9 r)
/-- what comes up in a layer -/
def sr_GI (c l : Nat) (a6 : Nat → Int32) (b4 : Nat → Int64) : Prop :=
  ∀ x, x < 8 → (∀ i, sr_tb (b4 x) i = true → i < 36) ∧ ((∀ r, r < c → sr_n a6 r / 100 = x → ¬ sr_n a6 r / 200 = l) → b4 x = 0)
theorem sr_ps_sat {F G : Nat → Int64} {a7 a8 a9 : Nat → Int32} {r : Nat} (hr : r < 14) (hz : sr_n a7 r ≤ 3) {s : Nat → Nat} :
    sr_sat F G a9 (-1) r (sr_n a7 r) (fun k => sr_n a8 (3 * r + k)) s ↔ sr_ps F a7 a8 a9 r s := by
  have e : ∀ k, k < sr_n a7 r → sr_S F G (-1) (3 * r + k) (sr_n a8 (3 * r + k)) = F (sr_n a8 (3 * r + k) / 100) := fun k hk => by
    unfold sr_S
    rw [if_neg (sr_nm1 (by omega))]
  constructor
  · intro h
    refine ⟨h.1, fun k hk => ⟨fun h9 => ?_, fun h9 => h.2.2 k hk h9⟩⟩
    have g := h.2.1 k hk h9
    dsimp only at g
    rw [e k hk] at g
    exact g
  · intro h
    refine ⟨h.1, fun k hk h9 => ?_, fun k hk h9 => (h.2 k hk).2 h9⟩
    dsimp only
    rw [e k hk]
    exact (h.2 k hk).1 h9
theorem sr_ps_congr {F G : Nat → Int64} {a7 a8 a9 : Nat → Int32} {r : Nat} (h : ∀ k, k < sr_n a7 r → G (sr_n a8 (3 * r + k) / 100) = F (sr_n a8 (3 * r + k) / 100)) {s : Nat → Nat} (hs : sr_ps G a7 a8 a9 r s) : sr_ps F a7 a8 a9 r s := by
  refine ⟨hs.1, fun k hk => ?_⟩
  rw [← h k hk]
  exact hs.2 k hk
theorem sr_GI_0 {c l : Nat} {a6 : Nat → Int32} {b4 : Nat → Int64} (h : ∀ x, x < 8 → b4 x = 0) : sr_GI c l a6 b4 := fun x hx =>
  ⟨fun i hi => by rw [h x hx, sr_0] at hi; exact absurd hi (by decide), fun _ => h x hx⟩
theorem sr_GI_step {c l r : Nat} {a6 : Nat → Int32} {b4 b4' : Nat → Int64} {A : Prop} {mt mt' : Int32} (h : sr_GI c l a6 b4) (hr : r < c) (hl : sr_n a6 r / 200 = l) (hQ : sr_Q (sr_n a6 r / 100) A mt b4 mt' b4') : sr_GI c l a6 b4' := by
  intro x hx
  by_cases e : x = sr_n a6 r / 100
  · refine ⟨fun i hi => ?_, fun g => absurd hl (g r hr e.symm)⟩
    rw [e] at hi
    rcases hQ.2.2.2 i hi with g | g
    · exact (h x hx).1 i (by rw [e]; exact g)
    · exact g
  · rw [hQ.2.1 x e]
    exact h x hx
def sr_SR (a2 a4 b2 b3 b4 : Nat → Int64) (x : Int32) : Prop :=
  (∀ q, q < 8 → b3 q = a4 q &&& (a2 q ^^^ (-1)) ∧ b2 q = a2 q ||| b3 q ∧ b4 q = 0) ∧ (x = 0 → ∀ q, q < 8 → b3 q = 0) ∧ (¬ x = 0 → ∃ q, q < 8 ∧ ¬ b3 q = 0)
def sr_ct (F : Nat → Int64) (l : Nat) : Nat := sr_bc (F (2 * l)) 36 + sr_bc (F (2 * l + 1)) 36
theorem sr_SR_use {a2 a4 b2 b3 b4 : Nat → Int64} {x : Int32} {c l : Nat} {a6 : Nat → Int32} (hl : l < 4) (h : sr_SR a2 a4 b2 b3 b4 x) (hG : sr_GI c l a6 a4) :
    (∀ q, q < 8 → ∀ i, sr_tb (b2 q) i = (sr_tb (a2 q) i || sr_tb (b3 q) i)) ∧ (∀ q, q < 8 → ∀ i, sr_tb (a4 q) i = true → sr_tb (b2 q) i = true) ∧
    (∀ q, q < 8 → ¬ q / 2 = l → b2 q = a2 q) ∧ (∀ q, q < 8 → (∀ r, r < c → ¬ sr_n a6 r / 100 = q) → b2 q = a2 q) ∧ (¬ x = 0 → sr_ct a2 l + 1 ≤ sr_ct b2 l) := by
  obtain ⟨h1, h2, h3⟩ := h
  have k1 : ∀ q, q < 8 → ∀ i, sr_tb (b2 q) i = (sr_tb (a2 q) i || sr_tb (b3 q) i) := fun q hq i => by rw [(h1 q hq).2.1, sr_or]
  have z : ∀ q, q < 8 → a4 q = 0 → b2 q = a2 q := fun q hq e => by
    apply sr_ext
    intro i hi
    rw [k1 q hq, (h1 q hq).1, sr_and, e, sr_0, Bool.false_and, Bool.or_false]
  have mono : ∀ q, q < 8 → ∀ i, sr_tb (a2 q) i = true → sr_tb (b2 q) i = true := fun q hq i g => by rw [k1 q hq, g, Bool.true_or]
  refine ⟨k1, fun q hq i g => ?_, fun q hq e => z q hq ((hG q hq).2 (fun r hr e1 e2 => e (by omega))), fun q hq e => z q hq ((hG q hq).2 (fun r hr e1 _ => e r hr e1)), fun hx => ?_⟩
  · have hi := sr_lt g
    rw [k1 q hq, (h1 q hq).1, sr_and, g, sr_not _ hi]
    cases sr_tb (a2 q) i <;> rfl
  · obtain ⟨q, hq, e⟩ := h3 hx
    obtain ⟨i, hi, hb⟩ := sr_ne0 e
    have hb' := hb
    rw [(h1 q hq).1, sr_and, sr_not _ hi] at hb
    have g4 : sr_tb (a4 q) i = true := by
      cases e : sr_tb (a4 q) i with
      | true => rfl
      | false => rw [e] at hb; exact absurd hb (by simp)
    have g2 : sr_tb (a2 q) i = false := by
      cases e : sr_tb (a2 q) i with
      | false => rfl
      | true => rw [e] at hb; exact absurd hb (by simp)
    have hi36 := (hG q hq).1 i g4
    have hb2 : sr_tb (b2 q) i = true := by rw [k1 q hq, hb', Bool.or_true]
    have hql : q / 2 = l := by
      refine Classical.byContradiction fun n => e ?_
      have := (hG q hq).2 (fun r hr e1 e2 => n (by omega))
      rw [this, sr_0] at g4
      exact absurd g4 (by decide)
    have st := sr_bc_lt (mono q hq) hb2 g2 36 hi36
    unfold sr_ct
    have hq2 : q = 2 * l ∨ q = 2 * l + 1 := by omega
    rcases hq2 with rfl | rfl
    · have := sr_bc_mono (mono (2 * l + 1) (by omega)) 36
      omega
    · have := sr_bc_mono (mono (2 * l) (by omega)) 36
      omega
theorem sr_ct_le (F : Nat → Int64) (l : Nat) : sr_ct F l ≤ 72 := by
  have h1 := sr_bc_le (F (2 * l)) 36
  have h2 := sr_bc_le (F (2 * l + 1)) 36
  unfold sr_ct
  omega
section
variable {f1 f2 f3 f4 f5 f6 f7 f8 f9 : Int32} {a1 a2 a3 a4 a5 : Nat → Int64} {a6 a7 a8 a9 a10 a11 a12 a13 a14 : Nat → Int32}
theorem sr_settle {post : Int32 → St1 → Prop} (H : ∀ x b2 b3 b4, sr_SR a2 a4 b2 b3 b4 x → post x (f1, f2, f3, f4, f5, f6, f7, f8, f9, a1, b2, b3, b4, a5, a6, a7, a8, a9, a10, a11, a12, a13, a14)) : wpX_settle post (f1, f2, f3, f4, f5, f6, f7, f8, f9, a1, a2, a3, a4, a5, a6, a7, a8, a9, a10, a11, a12, a13, a14) := by
  refine pk_loop (σ := Int32 × (Nat → Int64) × (Nat → Int64) × (Nat → Int64)) (fun n i u => wX_settle_4 post f1 f2 f3 f4 f5 f6 f7 f8 f9 n u.1 (nI i) a1 u.2.1 u.2.2.1 u.2.2.2 a5 a6 a7 a8 a9 a10 a11 a12 a13 a14)
    (fun i u => (u.1 = 0 ∨ u.1 = 1) ∧ (∀ q, q < i → u.2.2.1 q = a4 q &&& (a2 q ^^^ (-1)) ∧ u.2.1 q = a2 q ||| u.2.2.1 q ∧ u.2.2.2 q = 0) ∧ (∀ q, i ≤ q → u.2.1 q = a2 q ∧ u.2.2.2 q = a4 q) ∧ (u.1 = 0 → ∀ q, q < i → u.2.2.1 q = 0) ∧ (¬ u.1 = 0 → ∃ q, q < i ∧ ¬ u.2.2.1 q = 0))
    8 0 (0, a2, a3, a4) (by omega) ⟨Or.inl rfl, fun q hq => absurd hq (by omega), fun q _ => ⟨rfl, rfl⟩, fun _ q hq => absurd hq (by omega), fun z => absurd rfl z⟩ ?_ ?_
  · rintro n ⟨x, b2, b3, b4⟩ ⟨hx, h1, h2, h3, h4⟩
    dsimp only at hx h1 h2 h3 h4
    refine pk_le 8 8 (fun _ => ⟨?_, H x b2 b3 b4 ⟨h1, h3, h4⟩⟩) (fun g => absurd g (by omega))
    dsimp only
    rcases hx with rfl | rfl <;> rfl
  · rintro n i ⟨x, b2, b3, b4⟩ hi ⟨hx, h1, h2, h3, h4⟩ hw
    dsimp only at hx h1 h2 h3 h4
    have ei : (nI i).toNatClampNeg = i := nI_clamp (by omega)
    have e2 := (h2 i (Nat.le_refl i)).1
    have e4 := (h2 i (Nat.le_refl i)).2
    have inv : ∀ y : Int32, (y = 0 ∨ y = 1) → (y = 0 → x = 0 ∧ (a4 i &&& (a2 i ^^^ (-1))) = 0) → (¬ y = 0 → ¬ x = 0 ∨ ¬ (a4 i &&& (a2 i ^^^ (-1))) = 0) →
        wX_settle_4 post f1 f2 f3 f4 f5 f6 f7 f8 f9 n y (nI (i + 1)) a1 (vp_updL b2 i (a2 i ||| (a4 i &&& (a2 i ^^^ (-1))))) (vp_updL b3 i (a4 i &&& (a2 i ^^^ (-1)))) (vp_updL b4 i 0) a5 a6 a7 a8 a9 a10 a11 a12 a13 a14 := by
      intro y hy hy0 hy1
      refine hw (y, vp_updL b2 i (a2 i ||| (a4 i &&& (a2 i ^^^ (-1)))), vp_updL b3 i (a4 i &&& (a2 i ^^^ (-1))), vp_updL b4 i 0) ⟨hy, ?_, ?_, ?_, ?_⟩
      · dsimp only
        intro q hq
        by_cases e : q = i
        · rw [e, pk_uLs, pk_uLs, pk_uLs]; exact ⟨rfl, rfl, rfl⟩
        · rw [pk_uLn e, pk_uLn e, pk_uLn e]; exact h1 q (by omega)
      · dsimp only
        intro q hq
        rw [pk_uLn (by omega), pk_uLn (by omega)]
        exact h2 q (by omega)
      · dsimp only
        intro z q hq
        by_cases e : q = i
        · rw [e, pk_uLs]; exact (hy0 z).2
        · rw [pk_uLn e]; exact h3 (hy0 z).1 q (by omega)
      · dsimp only
        intro z
        rcases hy1 z with g | g
        · obtain ⟨q, hq, e⟩ := h4 g
          exact ⟨q, by omega, by rw [pk_uLn (by omega)]; exact e⟩
        · exact ⟨i, by omega, by rw [pk_uLs]; exact g⟩
    have hin : vp_in (nI i) 8 := pk_in i 8 hi
    refine pk_le 8 i (fun g => absurd g (by omega)) (fun _ => ⟨hin, hin, hin, nm_r (e' := vp_updL b3 i (a4 i &&& (a2 i ^^^ (-1)))) (by dsimp only; rw [ei, e2, e4]) ⟨hin, hin, hin, nm_r (e' := vp_updL b2 i (a2 i ||| (a4 i &&& (a2 i ^^^ (-1))))) (by dsimp only; rw [ei, e2, pk_uLs]) ⟨hin, nm_r (e' := vp_updL b4 i 0) (by rw [ei]) ?_⟩⟩⟩)
    refine br_c (fun g => ⟨hin, br_c (fun g2 => nm_r (nI_1 i) (inv 0 (Or.inl rfl) (fun _ => ⟨g, ?_⟩) (fun z => absurd rfl z))) (fun g2 => nm_r (nI_1 i) (inv 1 (Or.inr rfl) (fun z => absurd z (by decide)) (fun _ => Or.inr ?_)))⟩) (fun g => nm_r (nI_1 i) (inv 1 (Or.inr rfl) (fun z => absurd z (by decide)) (fun _ => Or.inl g)))
    · rw [ei, pk_uLs] at g2; exact g2
    · rw [ei, pk_uLs] at g2; exact g2
def sr_JI (c l t : Nat) (a2 a3 : Nat → Int64) (a6 a7 a8 a9 : Nat → Int32) (b4 : Nat → Int64) : Prop :=
  sr_GI c l a6 b4 ∧ ∀ r k, r < c → k < sr_n a7 r → 3 * r + k < t → sr_n a6 r / 200 = l → a9 (3 * r + k) = 0 →
    ∀ s, sr_sat a2 a3 a9 (nI (3 * r + k)) r (sr_n a7 r) (fun k => sr_n a8 (3 * r + k)) s → sr_tb (b4 (sr_n a6 r / 100)) (sr_af s (sr_n a6 r)) = true
theorem sr_jnew2 {post : St1 → Prop} (c l : Nat) (hc : c ≤ 14) (hl : l < 4) (h1 : f1 = nI c) (h3 : f3 = -1) (hR : ∀ r, r < c → sr_ok a6 a7 a8 a9 r)
    (H : ∀ e4 e5 e6 e8 b4 b12 b13 b14, sr_JI c l (3 * c) a2 a3 a6 a7 a8 a9 b4 → post (f1, f2, f3, e4, e5, e6, f7, e8, f9, a1, a2, a3, b4, a5, a6, a7, a8, a9, a10, a11, b12, b13, b14)) :
    ∀ g t, t + g = 3 * c → ∀ e4 e5 e6 e8 b4 b12 b13 b14, sr_JI c l t a2 a3 a6 a7 a8 a9 b4 → wX_joinNew_2 post (nI l) (g + 1) (nI t) f1 f2 f3 e4 e5 e6 f7 e8 f9 a1 a2 a3 b4 a5 a6 a7 a8 a9 a10 a11 b12 b13 b14 := by
  subst h1 h3
  intro g
  induction g with
  | zero =>
    intro t ht e4 e5 e6 e8 b4 b12 b13 b14 hI
    obtain rfl : t = 3 * c := by omega
    exact pk_le (3 * c) (3 * c) (fun _ => H e4 e5 e6 e8 b4 b12 b13 b14 hI) (fun z => absurd z (by omega)) (sr_3m c)
  | succ g ih =>
    intro t ht e4 e5 e6 e8 b4 b12 b13 b14 hI
    have hr : t / 3 < c := by omega
    obtain ⟨hrl, hly⟩ := hR (t / 3) hr
    have hrl' := hrl
    obtain ⟨h6, hh, h7, hz, h8, hsf⟩ := hrl
    have et : 3 * (t / 3) + t % 3 = t := by omega
    have er : (nI (t / 3)).toNatClampNeg = t / 3 := nI_clamp (by omega)
    have ett : (nI t).toNatClampNeg = t := nI_clamp (by omega)
    have d3 : nI t / 3 = nI (t / 3) := pk_div (d := 3) (by omega) (by omega) (by omega)
    have r3 : nI t - nI t / 3 * 3 = nI (t % 3) := pk_rem (d := 3) (by omega) (by omega) (by omega)
    have nx : (t % 3 < sr_n a7 (t / 3) → sr_n a6 (t / 3) / 200 = l → a9 t = 0 → ∀ s, sr_sat a2 a3 a9 (nI t) (t / 3) (sr_n a7 (t / 3)) (fun k => sr_n a8 (3 * (t / 3) + k)) s → sr_tb (b4 (sr_n a6 (t / 3) / 100)) (sr_af s (sr_n a6 (t / 3))) = true) →
        sr_JI c l (t + 1) a2 a3 a6 a7 a8 a9 b4 := by
      intro hd
      refine ⟨hI.1, fun r k hr' hk hlt hl' h9 s hs => ?_⟩
      by_cases e : 3 * r + k = t
      · have hz' : sr_n a7 r ≤ 3 := (hR r hr').1.2.2.2.1
        obtain rfl : r = t / 3 := by omega
        obtain rfl : k = t % 3 := by omega
        rw [e] at h9 hs
        exact hd hk hl' h9 s hs
      · exact hI.2 r k hr' hk (by omega) hl' h9 s hs
    have skip : (t % 3 < sr_n a7 (t / 3) → sr_n a6 (t / 3) / 200 = l → a9 t = 0 → ∀ s, sr_sat a2 a3 a9 (nI t) (t / 3) (sr_n a7 (t / 3)) (fun k => sr_n a8 (3 * (t / 3) + k)) s → sr_tb (b4 (sr_n a6 (t / 3) / 100)) (sr_af s (sr_n a6 (t / 3))) = true) →
        wX_joinNew_2 post (nI l) (g + 1) (nI (t + 1)) (nI c) f2 (-1) e4 e5 e6 f7 e8 f9 a1 a2 a3 b4 a5 a6 a7 a8 a9 a10 a11 b12 b13 b14 := fun hd => ih (t + 1) (by omega) e4 e5 e6 e8 b4 b12 b13 b14 (nx hd)
    refine pk_le (3 * c) t (fun z => absurd z (by omega)) (fun _ => ⟨by decide, nm_r d3 ⟨by decide, pk_in (t / 3) 14 (by omega), ?_⟩⟩) (sr_3m c)
    refine pk_le (sr_n a7 (t / 3)) (t % 3) (fun z => br_t rfl (nm_r (nI_1 t) (skip (fun q => absurd q (by omega))))) (fun hk => ⟨pk_in (t / 3) 14 (by omega), ⟨by decide, ?_⟩⟩) (by rw [er]; exact h7) r3
    refine pk_eq (sr_n a6 (t / 3) / 200) l (fun hl' => br_f (sr_nm1 (by omega)) (br_f (by decide) ⟨pk_in t 42 (by omega), br_c (fun g9 => ⟨pk_in t 42 (by omega), by decide, ?_⟩) (fun g9 => nm_r (nI_1 t) (skip (fun _ _ q => absurd q ?_)))⟩)) (fun hl' => br_t rfl (nm_r (nI_1 t) (skip (fun _ q => absurd q hl')))) (by rw [er, h6]; exact pk_div (d := 200) (by omega) (by omega) (by omega))
    · rw [ett] at g9
      have h8' := h8 (t % 3) hk
      dsimp only at h8'
      rw [et] at h8'
      have E : a8 (nI t).toNatClampNeg / 100 = nI (sr_n a8 t / 100) := by rw [ett, h8'.1, sr_d100 (by omega)]
      have EC : (a8 (nI t).toNatClampNeg / 100).toNatClampNeg = sr_n a8 t / 100 := by rw [E, nI_clamp (by omega)]
      refine ⟨pk_in (sr_n a8 t / 100) 8 (by omega) E, br_c (fun g3 => nm_r (nI_1 t) (skip (fun _ _ _ s hs => ?_))) (fun g3 => ?_)⟩
      · rw [EC] at g3
        have q := hs.2.1 (t % 3) hk (by rw [et]; exact g9)
        dsimp only at q
        rw [et] at q
        unfold sr_S at q
        rw [if_pos rfl, g3, sr_0] at q
        exact absurd q (by decide)
      · refine sr_join (t / 3) _ _ _ (by omega) hrl' (fun ps wc mt b4' b12' b13' b14' hQ hco => nm_r (nI_1 t) (ih (t + 1) (by omega) _ _ _ _ _ _ _ _ ⟨sr_GI_step hI.1 hr hl' hQ, fun r k hr' hk' hlt hlr h9 s hs => ?_⟩))
        by_cases e : 3 * r + k = t
        · have hz' : sr_n a7 r ≤ 3 := (hR r hr').1.2.2.2.1
          obtain rfl : r = t / 3 := by omega
          rw [e] at hs
          exact hco s hs
        · have old := hI.2 r k hr' hk' (by omega) hlr h9 s hs
          by_cases e6 : sr_n a6 r / 100 = sr_n a6 (t / 3) / 100
          · rw [e6] at old ⊢
            exact hQ.2.2.1 _ old
          · rw [hQ.2.1 _ e6]
            exact old
    · rw [ett] at g9; exact g9
theorem sr_jnew {post : St1 → Prop} (c l : Nat) (hc : c ≤ 14) (hl : l < 4) (h1 : f1 = nI c) (h3 : f3 = -1) (hR : ∀ r, r < c → sr_ok a6 a7 a8 a9 r) (h4 : ∀ x, x < 8 → a4 x = 0)
    (H : ∀ e4 e5 e6 e8 b4 b12 b13 b14, sr_JI c l (3 * c) a2 a3 a6 a7 a8 a9 b4 → post (f1, f2, f3, e4, e5, e6, f7, e8, f9, a1, a2, a3, b4, a5, a6, a7, a8, a9, a10, a11, b12, b13, b14)) :
    wpX_joinNew post (f1, f2, f3, f4, f5, f6, f7, f8, f9, a1, a2, a3, a4, a5, a6, a7, a8, a9, a10, a11, a12, a13, a14) (nI l) :=
  ⟨3 * c + 1, sr_jnew2 c l hc hl h1 h3 hR H (3 * c) 0 (by omega) _ _ _ _ _ _ _ _ ⟨sr_GI_0 h4, fun r k _ _ q => absurd q (by omega)⟩⟩
end
end
section
/-! ===== solve ===== -/
def sr_AI (c l t : Nat) (a2 : Nat → Int64) (a6 a7 a8 a9 : Nat → Int32) (b4 : Nat → Int64) : Prop :=
  sr_GI c l a6 b4 ∧ ∀ r, r < c → r < t → sr_n a6 r / 200 = l → ∀ s, sr_ps a2 a7 a8 a9 r s → sr_tb (b4 (sr_n a6 r / 100)) (sr_af s (sr_n a6 r)) = true
def sr_RI (c l t : Nat) (a1 F0 : Nat → Int64) (a6 a7 a8 a9 : Nat → Int32) (x : Int32) (b2 b3 b4 : Nat → Int64) : Prop :=
  (∃ Fp : Nat → Int64, (∀ q, q < 8 → ∀ i, sr_tb (b2 q) i = (sr_tb (Fp q) i || sr_tb (b3 q) i)) ∧ ∀ r, r < c → sr_n a6 r / 200 = l → ∀ s, sr_ps Fp a7 a8 a9 r s → sr_tb (b2 (sr_n a6 r / 100)) (sr_af s (sr_n a6 r)) = true) ∧
  (∀ q, q < 8 → ∀ i, sr_tb (a1 q) i = true → sr_tb (b2 q) i = true) ∧ (∀ q, q < 8 → (∀ r, r < c → ¬ sr_n a6 r / 100 = q) → b2 q = a1 q) ∧ (∀ q, q < 8 → ¬ q / 2 = l → b2 q = F0 q) ∧ (∀ q, q < 8 → b4 q = 0) ∧
  (x = 0 → ∀ q, q < 8 → b3 q = 0) ∧ (¬ x = 0 → t + 1 ≤ sr_ct b2 l)
theorem sr_RI_exit {c l t : Nat} {a1 F0 : Nat → Int64} {a6 a7 a8 a9 : Nat → Int32} {x : Int32} {b2 b3 b4 : Nat → Int64} (hl : l < 4) (hR : ∀ r, r < c → sr_ok a6 a7 a8 a9 r) (hF : sr_LI c l a1 F0 a6 a7 a8 a9)
    (h : sr_RI c l t a1 F0 a6 a7 a8 a9 x b2 b3 b4) (hx : x = 0) : sr_LI c (l + 1) a1 b2 a6 a7 a8 a9 := by
  obtain ⟨⟨Fp, g1, g2⟩, h2, h3, h4, h5, h6, h7⟩ := h
  refine ⟨h2, h3, fun r hr hl' s hs => ?_⟩
  obtain ⟨⟨k6, kh, k7, kz, k8, ksf⟩, kl⟩ := hR r hr
  by_cases e : sr_n a6 r / 200 = l
  · refine g2 r hr e s ⟨hs.1, fun k hk => ?_⟩
    have hp := (k8 k hk).2
    dsimp only at hp
    have q := hs.2 k hk
    have e' : ∀ i, sr_tb (Fp (sr_n a8 (3 * r + k) / 100)) i = sr_tb (b2 (sr_n a8 (3 * r + k) / 100)) i := fun i => by
      rw [g1 _ (by omega) i, h6 hx _ (by omega), sr_0, Bool.or_false]
    rw [e']
    exact q
  · rw [h4 _ (by omega) (by omega)]
    refine hF.2.2 r hr (by omega) s (sr_ps_congr (fun k hk => ?_) hs)
    have hp := (k8 k hk).2
    have hq := kl k hk
    dsimp only at hp
    exact h4 _ (by omega) (by omega)
theorem sr_RI_new {c l : Nat} {a1 F0 : Nat → Int64} {a6 a7 a8 a9 : Nat → Int32} {x : Int32} {b4 c2 c3 c4 : Nat → Int64} (hl : l < 4) (hF : sr_LI c l a1 F0 a6 a7 a8 a9) (hR : ∀ r, r < c → sr_ok a6 a7 a8 a9 r)
    (hA : sr_AI c l c F0 a6 a7 a8 a9 b4) (hS : sr_SR F0 b4 c2 c3 c4 x) : sr_RI c l 0 a1 F0 a6 a7 a8 a9 x c2 c3 c4 := by
  obtain ⟨u1, u2, u3, u4, u5⟩ := sr_SR_use hl hS hA.1
  refine ⟨⟨F0, u1, fun r hr e s hs => u2 _ ?_ _ (hA.2 r hr hr e s hs)⟩, fun q hq i z => ?_, fun q hq z => (u4 q hq z).trans (hF.2.1 q hq z), u3, fun q hq => (hS.1 q hq).2.2, hS.2.1, fun z => ?_⟩
  · have := (hR r hr).1.2.1
    omega
  · rw [u1 q hq, hF.1 q hq i z, Bool.true_or]
  · have := u5 z
    omega
theorem sr_RI_step {c l t : Nat} {a1 F0 : Nat → Int64} {a6 a7 a8 a9 : Nat → Int32} {x x' : Int32} {b2 b3 b4 b4' c2 c3 c4 : Nat → Int64} (hc : c ≤ 14) (hl : l < 4) (hR : ∀ r, r < c → sr_ok a6 a7 a8 a9 r)
    (h : sr_RI c l t a1 F0 a6 a7 a8 a9 x b2 b3 b4) (hx : ¬ x = 0) (hJ : sr_JI c l (3 * c) b2 b3 a6 a7 a8 a9 b4') (hS : sr_SR b2 b4' c2 c3 c4 x') : sr_RI c l (t + 1) a1 F0 a6 a7 a8 a9 x' c2 c3 c4 := by
  obtain ⟨⟨Fp, g1, g2⟩, h2, h3, h4, h5, h6, h7⟩ := h
  obtain ⟨u1, u2, u3, u4, u5⟩ := sr_SR_use hl hS hJ.1
  refine ⟨⟨b2, u1, fun r hr e s hs => ?_⟩, fun q hq i z => ?_, fun q hq z => (u4 q hq z).trans (h3 q hq z), fun q hq z => (u3 q hq z).trans (h4 q hq z), fun q hq => (hS.1 q hq).2.2, hS.2.1, fun z => ?_⟩
  · obtain ⟨⟨k6, kh, k7, kz, k8, ksf⟩, kl⟩ := hR r hr
    by_cases hex : ∃ k, k < sr_n a7 r ∧ a9 (3 * r + k) = 0 ∧ sr_tb (b3 (sr_n a8 (3 * r + k) / 100)) (sr_af s (sr_n a8 (3 * r + k))) = true
    · obtain ⟨k, hk, h9, hb⟩ := hex
      refine u2 _ (by omega) _ (hJ.2 r k hr hk (by omega) e h9 s ⟨hs.1, fun k' hk' h9' => ?_, fun k' hk' h9' => (hs.2 k' hk').2 h9'⟩)
      dsimp only
      unfold sr_S
      by_cases ek : k' = k
      · rw [ek, if_pos rfl]; exact hb
      · rw [if_neg (fun z => ek (by have := (nI_eq (by omega) (by omega)).mp z; omega))]
        exact (hs.2 k' hk').1 h9'
    · have hF : sr_ps Fp a7 a8 a9 r s := by
        refine ⟨hs.1, fun k hk => ⟨fun h9 => ?_, fun h9 => ?_⟩⟩
        · have hp := (k8 k hk).2
          dsimp only at hp
          have q := (hs.2 k hk).1 h9
          rw [g1 _ (by omega)] at q
          cases e3 : sr_tb (b3 (sr_n a8 (3 * r + k) / 100)) (sr_af s (sr_n a8 (3 * r + k))) with
          | true => exact absurd ⟨k, hk, h9, e3⟩ hex
          | false => rw [e3, Bool.or_false] at q; exact q
        · have hp := (k8 k hk).2
          dsimp only at hp
          have q := (hs.2 k hk).2 h9
          rw [g1 _ (by omega)] at q
          exact (Bool.or_eq_false_iff.mp q).1
      rw [u1 _ (by omega), g2 r hr e s hF, Bool.true_or]
  · rw [u1 q hq, h2 q hq i z, Bool.true_or]
  · have := u5 z
    have := h7 hx
    omega
section
variable {f1 f2 f3 f4 f5 f6 f7 f8 f9 : Int32} {a1 a2 a3 a4 a5 : Nat → Int64} {a6 a7 a8 a9 a10 a11 a12 a13 a14 : Nat → Int32}
theorem sr_s102 {post : St1 → Prop} {J : Int32 → Int32 → Int32 → Int32 → Int32 → Int32 → Int32 → Int32 → Int32 → Int32 → (Nat → Int64) → (Nat → Int64) → (Nat → Int64) → (Nat → Int64) → (Nat → Int64) → (Nat → Int32) → (Nat → Int32) → (Nat → Int32) → (Nat → Int32) → (Nat → Int32) → (Nat → Int32) → (Nat → Int32) → (Nat → Int32) → (Nat → Int32) → Prop}
    (c l : Nat) (F0 : Nat → Int64) (hc : c ≤ 14) (hl : l < 4) (h1 : f1 = nI c) (h3 : f3 = -1) (hR : ∀ r, r < c → sr_ok a6 a7 a8 a9 r) (hF : sr_LI c l a1 F0 a6 a7 a8 a9)
    (HJ : ∀ e4 e5 e6 e8 b2 b3 b4 b12 b13 b14, sr_LI c (l + 1) a1 b2 a6 a7 a8 a9 → (∀ q, q < 8 → b4 q = 0) → J (nI (l + 1)) f1 f2 f3 e4 e5 e6 f7 e8 f9 a1 b2 b3 b4 a5 a6 a7 a8 a9 a10 a11 b12 b13 b14) :
    ∀ g t, t + g = 74 → ∀ x e4 e5 e6 e8 b2 b3 b4 b12 b13 b14, sr_RI c l t a1 F0 a6 a7 a8 a9 x b2 b3 b4 → wX_solve_102 post J (nI l) (g + 1) x (nI t) f1 f2 f3 e4 e5 e6 f7 e8 f9 a1 b2 b3 b4 a5 a6 a7 a8 a9 a10 a11 b12 b13 b14 := by
  intro g
  induction g with
  | zero =>
    intro t ht x e4 e5 e6 e8 b2 b3 b4 b12 b13 b14 hI
    have hx : x = 0 := by
      refine Classical.byContradiction fun n => ?_
      have := hI.2.2.2.2.2.2 n
      have := sr_ct_le b2 l
      omega
    exact pk_le 74 t (fun _ => nm_r (nI_1 l) (HJ _ _ _ _ _ _ _ _ _ _ (sr_RI_exit hl hR hF hI hx) hI.2.2.2.2.1)) (fun z => absurd z (by omega))
  | succ g ih =>
    intro t ht x e4 e5 e6 e8 b2 b3 b4 b12 b13 b14 hI
    refine pk_le 74 t (fun z => absurd z (by omega)) (fun _ => br_c (fun hx => nm_r (nI_1 l) (HJ _ _ _ _ _ _ _ _ _ _ (sr_RI_exit hl hR hF hI hx) hI.2.2.2.2.1)) (fun hx => ?_))
    refine sr_jnew c l hc hl h1 h3 hR hI.2.2.2.2.1 (fun e4' e5' e6' e8' b4' b12' b13' b14' hJ => ?_)
    exact sr_settle (fun x' c2 c3 c4 hS => nm_r (nI_1 t) (ih (t + 1) (by omega) _ _ _ _ _ _ _ _ _ _ _ (sr_RI_step hc hl hR hI hx hJ hS)))
theorem sr_s49 {post : St1 → Prop} {J : Int32 → Int32 → Int32 → Int32 → Int32 → Int32 → Int32 → Int32 → Int32 → Int32 → (Nat → Int64) → (Nat → Int64) → (Nat → Int64) → (Nat → Int64) → (Nat → Int64) → (Nat → Int32) → (Nat → Int32) → (Nat → Int32) → (Nat → Int32) → (Nat → Int32) → (Nat → Int32) → (Nat → Int32) → (Nat → Int32) → (Nat → Int32) → Prop}
    (c l : Nat) (hc : c ≤ 14) (hl : l < 4) (h1 : f1 = nI c) (h3 : f3 = -1) (hR : ∀ r, r < c → sr_ok a6 a7 a8 a9 r)
    (H : ∀ e4 e5 e6 e7 e8 b4 b12 b13 b14 x c2 c3 c4, sr_AI c l c a2 a6 a7 a8 a9 b4 → sr_SR a2 b4 c2 c3 c4 x → ∃ n, wX_solve_102 post J (nI l) n x 0 f1 f2 f3 e4 e5 e6 e7 e8 f9 a1 c2 c3 c4 a5 a6 a7 a8 a9 a10 a11 b12 b13 b14) :
    ∀ g t, t + g = c → ∀ e4 e5 e6 e7 e8 b4 b12 b13 b14, sr_AI c l t a2 a6 a7 a8 a9 b4 → wX_solve_49 post J (nI l) (g + 1) (nI t) f1 f2 f3 e4 e5 e6 e7 e8 f9 a1 a2 a3 b4 a5 a6 a7 a8 a9 a10 a11 b12 b13 b14 := by
  subst h1 h3
  intro g
  induction g with
  | zero =>
    intro t ht e4 e5 e6 e7 e8 b4 b12 b13 b14 hI
    obtain rfl : t = c := by omega
    exact pk_le t t (fun _ => sr_settle (fun x c2 c3 c4 hS => H e4 e5 e6 e7 e8 b4 b12 b13 b14 x c2 c3 c4 hI hS)) (fun z => absurd z (by omega))
  | succ g ih =>
    intro t ht e4 e5 e6 e7 e8 b4 b12 b13 b14 hI
    have hr : t < c := by omega
    have hrl := (hR t hr).1
    have hrl' := hrl
    obtain ⟨h6, hh, h7, hz, h8, hsf⟩ := hrl
    have er : (nI t).toNatClampNeg = t := nI_clamp (by omega)
    refine pk_le c t (fun z => absurd z (by omega)) (fun _ => ⟨pk_in t 14 (by omega), ⟨by decide, ?_⟩⟩)
    refine pk_eq (sr_n a6 t / 200) l (fun hl' => br_f (sr_nm1 (by omega)) ?_) (fun hl' => nm_r (nI_1 t) (ih (t + 1) (by omega) _ _ _ _ _ _ _ _ _ ⟨hI.1, fun r hr' hlt e s hs => ?_⟩)) (by rw [er, h6]; exact pk_div (d := 200) (by omega) (by omega) (by omega))
    · refine sr_join t _ _ _ (by omega) hrl' (fun ps wc mt b4' b12' b13' b14' hQ hco => nm_r (nI_1 t) (ih (t + 1) (by omega) _ _ _ _ _ _ _ _ _ ⟨sr_GI_step hI.1 hr hl' hQ, fun r hr' hlt e s hs => ?_⟩))
      by_cases er' : r = t
      · subst er'
        exact hco s ((sr_ps_sat (by omega) hz).mpr hs)
      · have old := hI.2 r hr' (by omega) e s hs
        by_cases e6' : sr_n a6 r / 100 = sr_n a6 t / 100
        · rw [e6'] at old ⊢
          exact hQ.2.2.1 _ old
        · rw [hQ.2.1 _ e6']
          exact old
    · by_cases er' : r = t
      · subst er'
        exact absurd e hl'
      · exact hI.2 r hr' (by omega) e s hs
theorem sr_s42 {post : St1 → Prop} (c : Nat) (hc : c ≤ 14) (h1 : f1 = nI c) (h3 : f3 = -1) (hR : ∀ r, r < c → sr_ok a6 a7 a8 a9 r)
    (H : ∀ e4 e5 e6 e7 e8 b2 b3 b4 b12 b13 b14, sr_LI c 4 a1 b2 a6 a7 a8 a9 → post (f1, f2, f3, e4, e5, e6, e7, e8, f9, a1, b2, b3, b4, a5, a6, a7, a8, a9, a10, a11, b12, b13, b14)) :
    ∀ g l, l + g = 4 → ∀ e4 e5 e6 e7 e8 b2 b3 b4 b12 b13 b14, sr_LI c l a1 b2 a6 a7 a8 a9 → (∀ q, q < 8 → b4 q = 0) → wX_solve_42 post (g + 1) (nI l) f1 f2 f3 e4 e5 e6 e7 e8 f9 a1 b2 b3 b4 a5 a6 a7 a8 a9 a10 a11 b12 b13 b14 := by
  intro g
  induction g with
  | zero =>
    intro l hlg e4 e5 e6 e7 e8 b2 b3 b4 b12 b13 b14 hL h0
    obtain rfl : l = 4 := by omega
    exact pk_le 4 4 (fun _ => H _ _ _ _ _ _ _ _ _ _ _ hL) (fun z => absurd z (by omega))
  | succ g ih =>
    intro l hlg e4 e5 e6 e7 e8 b2 b3 b4 b12 b13 b14 hL h0
    refine pk_le 4 l (fun z => absurd z (by omega)) (fun _ => ⟨c + 1, ?_⟩)
    refine sr_s49 c l hc (by omega) h1 h3 hR (fun e4' e5' e6' e7' e8' b4' b12' b13' b14' x c2 c3 c4 hA hS => ⟨75, ?_⟩) c 0 (by omega) _ _ _ _ _ _ _ _ _ ⟨sr_GI_0 h0, fun r _ q => absurd q (by omega)⟩
    exact sr_s102 c l b2 hc (by omega) h1 h3 hR hL (fun e4 e5 e6 e8 b2 b3 b4 b12 b13 b14 hL' h0' => ih (l + 1) (by omega) _ _ _ _ _ _ _ _ _ _ _ hL' h0') 74 0 rfl _ _ _ _ _ _ _ _ _ _ _ (sr_RI_new (by omega) hL hR hA hS)
theorem sr_solve {post : St1 → Prop} (c : Nat) (hc : c ≤ 14) (h1 : f1 = nI c) (h3 : f3 = -1) (hR : ∀ r, r < c → sr_ok a6 a7 a8 a9 r)
    (H : ∀ e4 e5 e6 e7 e8 b2 b3 b4 b12 b13 b14, sr_LI c 4 a1 b2 a6 a7 a8 a9 → post (f1, f2, f3, e4, e5, e6, e7, e8, f9, a1, b2, b3, b4, a5, a6, a7, a8, a9, a10, a11, b12, b13, b14)) : wpX_solve post (f1, f2, f3, f4, f5, f6, f7, f8, f9, a1, a2, a3, a4, a5, a6, a7, a8, a9, a10, a11, a12, a13, a14) := by
  refine pk_loop (σ := (Nat → Int64) × (Nat → Int64) × (Nat → Int64)) (fun n i u => wX_solve_2 post f1 f2 f3 f4 f5 f6 f7 f8 f9 n (nI i) a1 u.1 u.2.1 u.2.2 a5 a6 a7 a8 a9 a10 a11 a12 a13 a14) (fun i u => ∀ q, q < i → u.1 q = a1 q ∧ u.2.2 q = 0) 8 0 (a2, a3, a4) (by omega) (fun q hq => absurd hq (by omega)) ?_ ?_
  · rintro n ⟨b2, b3, b4⟩ hI
    dsimp only at hI
    refine pk_le 8 8 (fun _ => ⟨5, ?_⟩) (fun z => absurd z (by omega))
    refine sr_s42 c hc h1 h3 hR H 4 0 rfl _ _ _ _ _ _ _ _ _ _ _ ⟨fun q hq i z => ?_, fun q hq _ => (hI q hq).1, fun r _ q => absurd q (by omega)⟩ (fun q hq => (hI q hq).2)
    dsimp only
    rw [(hI q hq).1]; exact z
  · rintro n i ⟨b2, b3, b4⟩ hi hI hw
    dsimp only at hI
    have ei : (nI i).toNatClampNeg = i := nI_clamp (by omega)
    have hin : vp_in (nI i) 8 := pk_in i 8 hi
    refine pk_le 8 i (fun z => absurd z (by omega)) (fun _ => ⟨hin, hin, nm_r (e' := vp_updL b2 i (a1 i)) (by dsimp only; rw [ei]) ⟨hin, nm_r (e' := vp_updL b3 i 0) (by dsimp only; rw [ei]) ⟨hin, nm_r (e' := vp_updL b4 i 0) (by dsimp only; rw [ei]) (nm_r (nI_1 i) (hw (vp_updL b2 i (a1 i), vp_updL b3 i 0, vp_updL b4 i 0) (fun q hq => ?_)))⟩⟩⟩)
    dsimp only
    by_cases e : q = i
    · rw [e, pk_uLs, pk_uLs]; exact ⟨rfl, rfl⟩
    · rw [pk_uLn e, pk_uLn e]; exact hI q (by omega)
theorem sr_refresh {post : St1 → Prop} (c : Nat) (hc : c ≤ 14) (h1 : f1 = nI c) (h3 : f3 = -1) (hR : ∀ r, r < c → sr_ok a6 a7 a8 a9 r) (hS : ¬ f9 = 0 → sr_LI c 4 a1 a2 a6 a7 a8 a9)
    (H : ∀ e4 e5 e6 e7 e8 e9 b2 b3 b4 b12 b13 b14, ¬ e9 = 0 → sr_LI c 4 a1 b2 a6 a7 a8 a9 → post (f1, f2, f3, e4, e5, e6, e7, e8, e9, a1, b2, b3, b4, a5, a6, a7, a8, a9, a10, a11, b12, b13, b14)) : wpX_refresh post (f1, f2, f3, f4, f5, f6, f7, f8, f9, a1, a2, a3, a4, a5, a6, a7, a8, a9, a10, a11, a12, a13, a14) :=
  br_c (fun _ => sr_solve c hc h1 h3 hR (fun e4 e5 e6 e7 e8 b2 b3 b4 b12 b13 b14 hL => H e4 e5 e6 e7 e8 1 b2 b3 b4 b12 b13 b14 (by decide) hL)) (fun g => H f4 f5 f6 f7 f8 f9 a2 a3 a4 a12 a13 a14 g (hS g))
end
end
section
/-! ===== the methods that ask ===== -/
theorem sr_isRel {post : Int32 → Prop} {u : St2} {n : Nat} (hn : n < 8) (H : post 1) : wpX_isRelation post u (nI n) := br_f (nI_pos (by omega)) (br_f (nI_ge (b := 8) hn (by decide)) H)
theorem sr_isTh {post : Int32 → Prop} {u : St2} {n : Nat} (hn : n < 6) (H : post 1) : wpX_isThing post u (nI n) := br_f (nI_pos (by omega)) (br_f (nI_ge (b := 6) hn (by decide)) H)
theorem sr_xy (x y : Nat) : (6 : Int32) * nI x + nI y = nI (6 * x + y) := by rw [sr_6m, nI_add]
section
variable {f1 f2 f3 f4 f5 f6 f7 f8 f9 : Int32} {a1 a2 a3 a4 a5 : Nat → Int64} {a6 a7 a8 a9 a10 a11 a12 a13 a14 : Nat → Int32}
theorem sr_size {post : Int32 → St1 → Prop} (c q : Nat) (hq : q < 8) (hc : c ≤ 14) (h1 : f1 = nI c) (h3 : f3 = -1) (hR : ∀ r, r < c → sr_ok a6 a7 a8 a9 r) (hS : ¬ f9 = 0 → sr_LI c 4 a1 a2 a6 a7 a8 a9)
    (H : ∀ e4 e5 e6 e7 e8 e9 b2 b3 b4 b12 b13 b14, ¬ e9 = 0 → sr_LI c 4 a1 b2 a6 a7 a8 a9 → post (nI (sr_bc (b2 q) 36)) (f1, f2, f3, e4, e5, e6, e7, e8, e9, a1, b2, b3, b4, a5, a6, a7, a8, a9, a10, a11, b12, b13, b14)) : wpX_size post (f1, f2, f3, f4, f5, f6, f7, f8, f9, a1, a2, a3, a4, a5, a6, a7, a8, a9, a10, a11, a12, a13, a14) (nI q) := by
  unfold wpX_size
  refine sr_isRel hq (br_f (by decide) ?_)
  refine sr_refresh c hc h1 h3 hR hS (fun e4 e5 e6 e7 e8 e9 b2 b3 b4 b12 b13 b14 h9 hL => ⟨pk_in q 8 hq, sr_ones ?_⟩)
  rw [nI_clamp (by omega)]
  exact H e4 e5 e6 e7 e8 e9 b2 b3 b4 b12 b13 b14 h9 hL
theorem sr_fan {post : Int32 → St1 → Prop} (q x : Nat) (hq : q < 8) (hx : x < 6) (h9 : ¬ f9 = 0)
    (H : post (nI (sr_bc ((((a2 q).toUInt64 >>> ((nI (6 * x)).toInt64.toUInt64 &&& Int64.toUInt64 63)).toInt64) &&& 63) 36)) (f1, f2, f3, f4, f5, f6, f7, f8, f9, a1, a2, a3, a4, a5, a6, a7, a8, a9, a10, a11, a12, a13, a14)) : wpX_fan post (f1, f2, f3, f4, f5, f6, f7, f8, f9, a1, a2, a3, a4, a5, a6, a7, a8, a9, a10, a11, a12, a13, a14) (nI q) (nI x) := by
  unfold wpX_fan
  refine sr_isRel hq (br_f (by decide) (sr_isTh hx (br_f (by decide) (br_f h9 ⟨pk_in q 8 hq, sr_ones ?_⟩))))
  rw [nI_clamp (by omega), sr_6m]
  exact H
theorem sr_holds {post : Int32 → St1 → Prop} {p1 p2 : Int32} (q x y : Nat) (hq : q < 8) (hx : x < 6) (hy : y < 6) (h9 : ¬ f9 = 0)
    (H1 : sr_tb (a2 q) (6 * x + y) = true → post 1 (f1, f2, f3, f4, f5, f6, f7, f8, f9, a1, a2, a3, a4, a5, a6, a7, a8, a9, a10, a11, a12, a13, a14)) (H0 : sr_tb (a2 q) (6 * x + y) = false → post 0 (f1, f2, f3, f4, f5, f6, f7, f8, f9, a1, a2, a3, a4, a5, a6, a7, a8, a9, a10, a11, a12, a13, a14)) (e1 : p1 = nI x) (e2 : p2 = nI y) : wpX_holds post (f1, f2, f3, f4, f5, f6, f7, f8, f9, a1, a2, a3, a4, a5, a6, a7, a8, a9, a10, a11, a12, a13, a14) (nI q) p1 p2 := by
  subst e1 e2
  unfold wpX_holds
  refine sr_isRel hq (br_f (by decide) (sr_isTh hx (br_f (by decide) (sr_isTh hy (br_f (by decide) (br_f h9 ⟨pk_in q 8 hq, ?_⟩))))))
  refine sr_bitAt (6 * x + y) (by omega) (fun g => H1 ?_) (fun g => H0 ?_) (sr_xy x y)
  · rw [nI_clamp (by omega)] at g; exact g
  · rw [nI_clamp (by omega)] at g; exact g
theorem sr_given {post : Int32 → Prop} (q x y : Nat) (hq : q < 8) (hx : x < 6) (hy : y < 6)
    (H1 : sr_tb (a1 q) (6 * x + y) = true → post 1) (H0 : sr_tb (a1 q) (6 * x + y) = false → post 0) : wpX_given post (f1, f2, f3, f4, f5, f6, f7, f8, f9, a1, a2, a3, a4, a5, a6, a7, a8, a9, a10, a11, a12, a13, a14) (nI q) (nI x) (nI y) := by
  unfold wpX_given
  refine sr_isRel hq (br_f (by decide) (sr_isTh hx (br_f (by decide) (sr_isTh hy (br_f (by decide) ⟨pk_in q 8 hq, ?_⟩)))))
  refine sr_bitAt (6 * x + y) (by omega) (fun g => H1 ?_) (fun g => H0 ?_) (sr_xy x y)
  · rw [nI_clamp (by omega)] at g; exact g
  · rw [nI_clamp (by omega)] at g; exact g
theorem sr_supports {post : Int32 → St1 → Prop} (c r f : Nat) (hc : c ≤ 14) (hr : r < c) (hf : f < 36) (h1 : f1 = nI c) (hR : ∀ r, r < c → sr_ok a6 a7 a8 a9 r) (h9 : ¬ f9 = 0)
    (H1 : ∀ e4 e5 e6 e7 e8 b4 b12 b13 b14, (∃ s, sr_ps a2 a7 a8 a9 r s ∧ sr_af s (sr_n a6 r) = f) → post 1 (f1, f2, f3, e4, e5, e6, e7, e8, f9, a1, a2, a3, b4, a5, a6, a7, a8, a9, a10, a11, b12, b13, b14))
    (H0 : ∀ e4 e5 e6 e7 e8 b4 b12 b13 b14, post 0 (f1, f2, f3, e4, e5, e6, e7, e8, f9, a1, a2, a3, b4, a5, a6, a7, a8, a9, a10, a11, b12, b13, b14)) : wpX_supports post (f1, f2, f3, f4, f5, f6, f7, f8, f9, a1, a2, a3, a4, a5, a6, a7, a8, a9, a10, a11, a12, a13, a14) (nI r) (nI f) := by
  subst h1
  unfold wpX_supports
  refine br_f (nI_pos (by omega)) (br_f (nI_ge hr (by omega)) (br_f (by decide) (br_f (nI_pos (by omega)) (pk_lt f 36 (fun _ => br_f h9 ?_) (fun z => absurd z (by omega))))))
  refine sr_join r _ _ _ (by omega) (hR r hr).1 (fun ps wc mt b4 b12 b13 b14 hQ hco => br_c (fun g => H0 _ _ _ _ _ _ _ _ _) (fun g => H1 _ _ _ _ _ _ _ _ _ ?_))
  rcases hQ.1 g with z | ⟨s, hs, e⟩
  · exact absurd rfl z
  · refine ⟨s, (sr_ps_sat (by omega) (hR r hr).1.2.2.2.1).mp hs, ?_⟩
    have := sr_af_lt hs.1 (sr_n a6 r)
    exact (nI_eq (by omega) (by omega)).mp e
end
end
section
/-! ===== the methods that make ===== -/
def sr_01 (a : Nat → Int32) : Prop := ∀ k, a k = 0 ∨ a k = 1
theorem sr_nar {x : Int32} (h : x = 0 ∨ x = 1) : vp_nar .boolean x = x := by rcases h with rfl | rfl <;> rfl
theorem sr_01_put {a : Nat → Int32} (h : sr_01 a) {k : Nat} {x : Int32} (hx : x = 0 ∨ x = 1) : sr_01 (upd a k x) := by
  intro j
  by_cases e : j = k
  · rw [e, pk_us]; exact hx
  · rw [pk_un e]; exact h j
/-- bits of an int -/
def sr_bt (x : Int32) (i : Nat) : Bool := x.toBitVec.getLsbD i
theorem sr_bor (x y : Int32) (i : Nat) : sr_bt (x ||| y) i = (sr_bt x i || sr_bt y i) := by unfold sr_bt; rw [Int32.toBitVec_or, BitVec.getLsbD_or]
theorem sr_band (x y : Int32) (i : Nat) : sr_bt (x &&& y) i = (sr_bt x i && sr_bt y i) := by unfold sr_bt; rw [Int32.toBitVec_and, BitVec.getLsbD_and]
theorem sr_bxor (x y : Int32) (i : Nat) : sr_bt (x ^^^ y) i = (sr_bt x i ^^ sr_bt y i) := by unfold sr_bt; rw [Int32.toBitVec_xor, BitVec.getLsbD_xor]
theorem sr_b0 (i : Nat) : sr_bt 0 i = false := BitVec.getLsbD_zero
theorem sr_bm1 : ∀ i, i < 32 → sr_bt (-1) i = true := by decide +kernel
theorem sr_bsh : ∀ n, n < 4 → ∀ t, t < 4 → sr_bt ((1 : Int32) <<< (nI n &&& 31)) t = decide (t = n) := by decide +kernel
theorem sr_sub0 {x y : Int32} (h : x &&& (y ^^^ (-1)) = 0) {t : Nat} (ht : t < 4) (hx : sr_bt x t = true) : sr_bt y t = true := by
  have e := sr_band x (y ^^^ (-1)) t
  rw [h, sr_b0, hx, sr_bxor, sr_bm1 t (by omega)] at e
  cases g : sr_bt y t with
  | true => rfl
  | false => rw [g] at e; exact absurd e (by decide)
theorem sr_vars {post : Int32 → Prop} {u : St2} {x : Int32} (q : Nat) (hq : q < 800) (H : ∀ v, (∀ t, t < 4 → (sr_bt v t = true ↔ sr_iv t q)) → post v) (hx : x = nI q := by rfl) : wpX_variablesOf post u x := by
  subst hx
  refine ⟨by decide, by decide, nm_r (e' := nI (q / 10 % 10)) (by rw [sr_d10 (by omega), sr_r10 (by omega)]) ⟨by decide, nm_r (e' := nI (q % 10)) (sr_r10 (by omega)) ?_⟩⟩
  refine pk_le 4 (q / 10 % 10) (fun g1 => pk_le 4 (q % 10) (fun g2 => H _ (fun t ht => ?_)) (fun g2 => H _ (fun t ht => ?_))) (fun g1 => pk_le 4 (q % 10) (fun g2 => H _ (fun t ht => ?_)) (fun g2 => H _ (fun t ht => ?_)))
  · rw [sr_bor, sr_b0]
    unfold sr_iv
    constructor
    · intro z; exact absurd z (by decide)
    · intro z; omega
  · rw [sr_bor, sr_b0, sr_bsh _ g2 t ht, Bool.false_or, decide_eq_true_iff]
    unfold sr_iv
    omega
  · rw [sr_bor, sr_b0, sr_bsh _ g1 t ht, Bool.or_false, decide_eq_true_iff]
    unfold sr_iv
    omega
  · rw [sr_bor, sr_bsh _ g1 t ht, sr_bsh _ g2 t ht, Bool.or_eq_true, decide_eq_true_iff, decide_eq_true_iff]
    exact Iff.rfl
theorem sr_ok_congr {a6 a7 a8 a9 b6 b7 b8 b9 : Nat → Int32} {r r' : Nat} (h : sr_ok a6 a7 a8 a9 r) (h6 : b6 r' = a6 r) (h7 : b7 r' = a7 r) (h8 : ∀ k, k < 3 → b8 (3 * r' + k) = a8 (3 * r + k)) (h9 : ∀ k, k < 3 → b9 (3 * r' + k) = a9 (3 * r + k)) : sr_ok b6 b7 b8 b9 r' := by
  obtain ⟨⟨k6, kh, k7, kz, k8, ksf⟩, kl⟩ := h
  have n6 : sr_n b6 r' = sr_n a6 r := by unfold sr_n; rw [h6]
  have n7 : sr_n b7 r' = sr_n a7 r := by unfold sr_n; rw [h7]
  have n8 : ∀ k, k < 3 → sr_n b8 (3 * r' + k) = sr_n a8 (3 * r + k) := fun k hk => by unfold sr_n; rw [h8 k hk]
  unfold sr_ok
  rw [n6, n7]
  refine ⟨⟨h6.trans k6, kh, h7.trans k7, kz, fun k hk => ?_, fun t ht hv => ?_⟩, fun k hk => ?_⟩
  · dsimp only
    rw [n8 k (by omega), h8 k (by omega)]
    exact k8 k hk
  · have hv' : sr_iv t (sr_n a6 r) ∨ ∃ k, k < sr_n a7 r ∧ ¬ a9 (3 * r + k) = 0 ∧ sr_iv t (sr_n a8 (3 * r + k)) := by
      rcases hv with g | ⟨k, hk, g1, g2⟩
      · exact Or.inl g
      · dsimp only at g2
        rw [n8 k (by omega)] at g2
        rw [h9 k (by omega)] at g1
        exact Or.inr ⟨k, hk, g1, g2⟩
    obtain ⟨k, hk, g1, g2⟩ := ksf t ht hv'
    refine ⟨k, hk, ?_, ?_⟩
    · rw [h9 k (by omega)]; exact g1
    · dsimp only
      rw [n8 k (by omega)]; exact g2
  · rw [n8 k (by omega)]
    exact kl k hk
/-- b is a with the places from lo to hi taken from δ places further on -/
def sr_D (lo hi δ : Nat) (a b : Nat → Int32) : Prop := ∀ j, (lo ≤ j → j < hi → b j = a (j + δ)) ∧ (j < lo ∨ hi ≤ j → b j = a j)
theorem sr_D0 {lo hi δ : Nat} {a : Nat → Int32} (h : hi ≤ lo) : sr_D lo hi δ a a := fun j => ⟨fun h1 h2 => absurd h2 (by omega), fun _ => rfl⟩
theorem sr_Ds {lo hi δ k : Nat} {a b : Nat → Int32} {x : Int32} (h : sr_D lo hi δ a b) (hl : lo ≤ hi) (hk : k = hi) (hx : x = b (hi + δ)) : sr_D lo (hi + 1) δ a (upd b k x) := by
  subst hk hx
  intro j
  by_cases e : j = k
  · subst e
    rw [pk_us, (h (j + δ)).2 (Or.inr (by omega))]
    exact ⟨fun _ _ => rfl, fun z => absurd z (by omega)⟩
  · rw [pk_un e]
    exact ⟨fun h1 h2 => (h j).1 h1 (by omega), fun z => (h j).2 (by omega)⟩
section
variable {f1 f2 f3 f4 f5 f6 f7 f8 f9 : Int32} {a1 a2 a3 a4 a5 : Nat → Int64} {a6 a7 a8 a9 a10 a11 a12 a13 a14 : Nat → Int32}
theorem sr_give55 {post : Int32 → St1 → Prop} {x4 z0 : Int32} {x5 : Int64} (q : Nat) (hq : q < 8) (H : ∀ z b1, post z (f1, f2, f3, f4, f5, f6, f7, f8, 0, b1, a2, a3, a4, a5, a6, a7, a8, a9, a10, a11, a12, a13, a14)) : wX_give_55 post (nI q) x4 x5 z0 f1 f2 f3 f4 f5 f6 f7 f8 f9 a1 a2 a3 a4 a5 a6 a7 a8 a9 a10 a11 a12 a13 a14 :=
  br_c (fun _ => ⟨pk_in q 8 hq, pk_in q 8 hq, nm_e (H _ _)⟩) (fun _ => ⟨pk_in q 8 hq, pk_in q 8 hq, nm_e (H _ _)⟩)
theorem sr_give {post : Int32 → St1 → Prop} {p0 p1 p2 p3 : Int32} (q x y : Nat) (hq : q < 8) (hx : x < 6) (hy : y < 6) (H : ∀ z b1, post z (f1, f2, f3, f4, f5, f6, f7, f8, 0, b1, a2, a3, a4, a5, a6, a7, a8, a9, a10, a11, a12, a13, a14)) (e0 : p0 = nI q) (e1 : p1 = nI x) (e2 : p2 = nI y) : wpX_give post (f1, f2, f3, f4, f5, f6, f7, f8, f9, a1, a2, a3, a4, a5, a6, a7, a8, a9, a10, a11, a12, a13, a14) p0 p1 p2 p3 := by
  subst e0 e1 e2
  unfold wpX_give
  exact sr_isRel hq (br_f (by decide) (sr_isTh hx (br_f (by decide) (sr_isTh hy (br_f (by decide) (nm_e ⟨pk_in q 8 hq, br_c (fun _ => sr_give55 q hq H) (fun _ => sr_give55 q hq H)⟩))))))
theorem sr_chain {post : Int32 → St1 → Prop} {p0 p1 p2 : Int32} (q x a b : Nat) (hq : q < 8) (hx : x < 6) (ha : a < 4) (hb : b < 4) (H : ∀ z b1, post z (f1, f2, f3, f4, f5, f6, f7, f8, 0, b1, a2, a3, a4, a5, a6, a7, a8, a9, a10, a11, a12, a13, a14)) (e0 : p0 = nI q) (e1 : p1 = nI x) (e2 : p2 = nI (8 * a + 1 + b)) : wpX_chain post (f1, f2, f3, f4, f5, f6, f7, f8, f9, a1, a2, a3, a4, a5, a6, a7, a8, a9, a10, a11, a12, a13, a14) p0 p1 p2 := by
  subst e0 e1 e2
  unfold wpX_chain
  refine sr_isRel hq (br_f (by decide) (sr_isTh hx (br_f (by decide) ⟨by decide, nm_r (e' := nI a) ?_ ⟨by decide, nm_r (e' := nI (1 + b)) ?_ ?_⟩⟩)))
  · have := pk_div (a := 8 * a + 1 + b) (d := 8) (by omega) (by omega) (by omega)
    rw [show (8 * a + 1 + b) / 8 = a by omega] at this
    exact this
  · have := pk_rem (a := 8 * a + 1 + b) (d := 8) (by omega) (by omega) (by omega)
    rw [show (8 * a + 1 + b) % 8 = 1 + b by omega] at this
    exact this
  · refine br_f (nI_pos (by omega)) (pk_le a 5 (fun _ => pk_lt (1 + b) 1 (fun z => absurd z (by omega)) (fun _ => pk_le (1 + b) 6 (fun _ => ?_) (fun z => absurd z (by omega)))) (fun z => absurd z (by omega)))
    refine pk_loop (σ := Nat → Int64) (fun n i b1 => wX_chain_63 post (nI q) (nI x) (nI a) (nI (1 + b)) f1 f2 f3 f4 f5 f6 f7 f8 f9 n (nI i) b1 a2 a3 a4 a5 a6 a7 a8 a9 a10 a11 a12 a13 a14) (fun _ _ => True) (1 + b) 0 a1 (by omega) trivial ?_ ?_
    · intro n b1 _
      exact pk_le (1 + b) (1 + b) (fun _ => ⟨pk_in q 8 hq, sr_ones (H _ _)⟩) (fun z => absurd z (by omega))
    · intro n i b1 hi _ hw
      exact pk_le (1 + b) i (fun z => absurd z (by omega)) (fun _ => ⟨by decide, nm_e ⟨by decide, nm_e ⟨pk_in q 8 hq, pk_in q 8 hq, nm_e (nm_r (nI_1 i) (hw _ trivial))⟩⟩⟩)
theorem sr_body {post : Int32 → St1 → Prop} {p1 : Int32} (p ds : Nat) (hp : p < 800) (hd : ds ≤ 3) (h2 : f2 = nI ds)
    (H0 : ∀ z, post z (f1, f2, f3, f4, f5, f6, f7, f8, f9, a1, a2, a3, a4, a5, a6, a7, a8, a9, a10, a11, a12, a13, a14)) (H1 : ds < 3 → ∀ z v, (v = 0 ∨ v = 1) → post z (f1, (nI (ds + 1)), f3, f4, f5, f6, f7, f8, f9, a1, a2, a3, a4, a5, a6, a7, a8, a9, (upd a10 ds (nI p)), (upd a11 ds v), a12, a13, a14)) : wpX_body post (f1, f2, f3, f4, f5, f6, f7, f8, f9, a1, a2, a3, a4, a5, a6, a7, a8, a9, a10, a11, a12, a13, a14) (nI p) p1 := by
  subst h2
  have ed : (nI ds).toNatClampNeg = ds := nI_clamp (by omega)
  refine br_f (nI_pos (by omega)) (pk_le p 799 (fun _ => pk_eq ds 3 (fun _ => H0 _) (fun g => ⟨pk_in ds 3 (by omega), nm_r (e' := upd a10 ds (nI p)) (by rw [ed]) ?_⟩)) (fun z => absurd z (by omega)))
  refine br_c (fun _ => ⟨pk_in ds 3 (by omega), nm_r (e' := upd a11 ds 0) (by rw [ed, sr_nar (Or.inl rfl)]) (nm_r (nI_1 ds) (H1 (by omega) _ _ (Or.inl rfl)))⟩) (fun _ => ⟨pk_in ds 3 (by omega), nm_r (e' := upd a11 ds 1) (by rw [ed, sr_nar (Or.inr rfl)]) (nm_r (nI_1 ds) (H1 (by omega) _ _ (Or.inr rfl)))⟩)
theorem sr_drop {post : Int32 → St1 → Prop} (r c : Nat) (hr : r < 16) (hc : c ≤ 14) (h1 : f1 = nI c) (h01 : sr_01 a9)
    (H0 : post (-1) (f1, f2, f3, f4, f5, f6, f7, f8, f9, a1, a2, a3, a4, a5, a6, a7, a8, a9, a10, a11, a12, a13, a14))
    (H1 : r < c → ∀ b6 b7 b8 b9, sr_D r (c - 1) 1 a6 b6 → sr_D r (c - 1) 1 a7 b7 → sr_D (3 * r) (3 * (c - 1)) 3 a8 b8 → sr_D (3 * r) (3 * (c - 1)) 3 a9 b9 → sr_01 b9 → post (nI (c - 1)) ((nI (c - 1)), f2, f3, f4, f5, f6, f7, f8, 0, a1, a2, a3, a4, a5, b6, b7, b8, b9, a10, a11, a12, a13, a14)) :
    wpX_drop post (f1, f2, f3, f4, f5, f6, f7, f8, f9, a1, a2, a3, a4, a5, a6, a7, a8, a9, a10, a11, a12, a13, a14) (nI r) := by
  subst h1
  unfold wpX_drop
  refine br_f (nI_pos (by omega)) (pk_le c r (fun g => br_t rfl H0) (fun g => br_f (by decide) (nm_r (nI_1 r) ?_)))
  refine pk_loop (σ := (Nat → Int32) × (Nat → Int32) × (Nat → Int32) × (Nat → Int32)) (fun n i u => wX_drop_14 post (nI c) f2 f3 f4 f5 f6 f7 f8 f9 n (nI i) a1 a2 a3 a4 a5 u.1 u.2.1 u.2.2.1 u.2.2.2 a10 a11 a12 a13 a14)
    (fun i u => sr_D r (i - 1) 1 a6 u.1 ∧ sr_D r (i - 1) 1 a7 u.2.1 ∧ sr_D (3 * r) (3 * (i - 1)) 3 a8 u.2.2.1 ∧ sr_D (3 * r) (3 * (i - 1)) 3 a9 u.2.2.2 ∧ sr_01 u.2.2.2 ∧ r < i) c (r + 1) (a6, a7, a8, a9) (by omega) ⟨sr_D0 (by omega), sr_D0 (by omega), sr_D0 (by omega), sr_D0 (by omega), h01, by omega⟩ ?_ ?_
  · rintro n ⟨b6, b7, b8, b9⟩ ⟨g6, g7, g8, g9, g0, _⟩
    refine pk_le c c (fun _ => nm_r (e' := nI (c - 1)) ?_ (H1 g b6 b7 b8 b9 g6 g7 g8 g9 g0)) (fun z => absurd z (by omega))
    exact pk_sub (b := 1) (by omega)
  · rintro n i ⟨b6, b7, b8, b9⟩ hi ⟨g6, g7, g8, g9, g0, hri⟩ hw
    dsimp only at g6 g7 g8 g9 g0
    have ei : (nI i).toNatClampNeg = i := nI_clamp (by omega)
    have e1 : nI i - 1 = nI (i - 1) := pk_sub (b := 1) (by omega)
    have ei1 : (nI i - 1).toNatClampNeg = i - 1 := by rw [e1, nI_clamp (by omega)]
    have ii : i - 1 + 1 = i := by omega
    refine pk_le c i (fun z => absurd z (by omega)) (fun _ => ⟨pk_in i 14 (by omega), pk_in (i - 1) 14 (by omega) e1, nm_r (e' := upd b6 (i - 1) (b6 i)) (by dsimp only; rw [ei, ei1]) ⟨pk_in i 14 (by omega), pk_in (i - 1) 14 (by omega) e1, nm_r (e' := upd b7 (i - 1) (b7 i)) (by dsimp only; rw [ei, ei1]) ?_⟩⟩)
    refine pk_loop (σ := (Nat → Int32) × (Nat → Int32)) (fun m k u => wX_drop_52 post (wX_drop_14 post (nI c) f2 f3 f4 f5 f6 f7 f8 f9 n) (nI i) (nI c) f2 f3 f4 f5 f6 f7 f8 f9 m (nI k) a1 a2 a3 a4 a5 (upd b6 (i - 1) (b6 i)) (upd b7 (i - 1) (b7 i)) u.1 u.2 a10 a11 a12 a13 a14)
      (fun k u => sr_D (3 * r) (3 * (i - 1) + k) 3 a8 u.1 ∧ sr_D (3 * r) (3 * (i - 1) + k) 3 a9 u.2 ∧ sr_01 u.2) 3 0 (b8, b9) (by omega) ⟨g8, g9, g0⟩ ?_ ?_
    · rintro m ⟨c8, c9⟩ ⟨k8, k9, k0⟩
      dsimp only at k8 k9 k0
      refine pk_le 3 3 (fun _ => nm_r (nI_1 i) (hw (upd b6 (i - 1) (b6 i), upd b7 (i - 1) (b7 i), c8, c9) ⟨?_, ?_, ?_, ?_, k0, by omega⟩)) (fun z => absurd z (by omega))
      · dsimp only
        have := sr_Ds g6 (by omega) rfl (show b6 i = b6 (i - 1 + 1) by rw [ii])
        rw [show i + 1 - 1 = i - 1 + 1 by omega]
        exact this
      · dsimp only
        have := sr_Ds g7 (by omega) rfl (show b7 i = b7 (i - 1 + 1) by rw [ii])
        rw [show i + 1 - 1 = i - 1 + 1 by omega]
        exact this
      · dsimp only
        rw [show 3 * (i + 1 - 1) = 3 * (i - 1) + 3 by omega]
        exact k8
      · dsimp only
        rw [show 3 * (i + 1 - 1) = 3 * (i - 1) + 3 by omega]
        exact k9
    · rintro m k ⟨c8, c9⟩ hk ⟨k8, k9, k0⟩ hw2
      dsimp only at k8 k9 k0
      have E1 : (3 : Int32) * nI i + nI k = nI (3 * i + k) := by rw [sr_3m, nI_add]
      have E2 : (3 : Int32) * nI i - 3 + nI k = nI (3 * (i - 1) + k) := by
        rw [sr_3m, show nI (3 * i) - 3 = nI (3 * i - 3) from pk_sub (b := 3) (by omega), nI_add]
        congr 1
        omega
      have C1 : ((3 : Int32) * nI i + nI k).toNatClampNeg = 3 * (i - 1) + k + 3 := by rw [E1, nI_clamp (by omega)]; omega
      have C2 : ((3 : Int32) * nI i - 3 + nI k).toNatClampNeg = 3 * (i - 1) + k := by rw [E2, nI_clamp (by omega)]
      have I1 : vp_in ((3 : Int32) * nI i + nI k) 42 := pk_in (3 * i + k) 42 (by omega) E1
      have I2 : vp_in ((3 : Int32) * nI i - 3 + nI k) 42 := pk_in (3 * (i - 1) + k) 42 (by omega) E2
      refine pk_le 3 k (fun z => absurd z (by omega)) (fun _ => ⟨I1, I2, nm_r (e' := upd c8 (3 * (i - 1) + k) (c8 (3 * (i - 1) + k + 3))) (by dsimp only; rw [C1, C2]) ⟨I1, I2, nm_r (e' := upd c9 (3 * (i - 1) + k) (c9 (3 * (i - 1) + k + 3))) (by dsimp only; rw [C1, C2, sr_nar (k0 _)]) (nm_r (nI_1 k) (hw2 (upd c8 (3 * (i - 1) + k) (c8 (3 * (i - 1) + k + 3)), upd c9 (3 * (i - 1) + k) (c9 (3 * (i - 1) + k + 3))) ⟨?_, ?_, ?_⟩))⟩⟩)
      · exact sr_Ds (hi := 3 * (i - 1) + k) k8 (by omega) rfl rfl
      · exact sr_Ds (hi := 3 * (i - 1) + k) k9 (by omega) rfl rfl
      · exact sr_01_put k0 (k0 _)
end
end
section
/-! ===== rule ===== -/
section
variable {f1 f2 f3 f4 f5 f6 f7 f8 f9 : Int32} {a1 a2 a3 a4 a5 : Nat → Int64} {a6 a7 a8 a9 a10 a11 a12 a13 a14 : Nat → Int32}
theorem sr_r205 {post : Int32 → St1 → Prop} (c ds : Nat) (hc : c < 14) (hd : ds ≤ 3) (h1 : f1 = nI c) (h2 : f2 = nI ds) (h01 : sr_01 a9) (h11 : sr_01 a11)
    (H : ∀ b8 b9, (∀ j, j < 3 * c → b8 j = a8 j ∧ b9 j = a9 j) → (∀ k, k < ds → b8 (3 * c + k) = a10 k ∧ b9 (3 * c + k) = a11 k) → sr_01 b9 → post (nI c) ((nI (c + 1)), 0, f3, f4, f5, f6, f7, f8, 0, a1, a2, a3, a4, a5, a6, a7, b8, b9, a10, a11, a12, a13, a14)) :
    ∃ n, wX_rule_205 post f1 f2 f3 f4 f5 f6 f7 f8 f9 n 0 a1 a2 a3 a4 a5 a6 a7 a8 a9 a10 a11 a12 a13 a14 := by
  subst h1 h2
  refine pk_loop (σ := (Nat → Int32) × (Nat → Int32)) (fun n i u => wX_rule_205 post (nI c) (nI ds) f3 f4 f5 f6 f7 f8 f9 n (nI i) a1 a2 a3 a4 a5 a6 a7 u.1 u.2 a10 a11 a12 a13 a14)
    (fun i u => (∀ j, j < 3 * c → u.1 j = a8 j ∧ u.2 j = a9 j) ∧ (∀ k, k < i → u.1 (3 * c + k) = a10 k ∧ u.2 (3 * c + k) = a11 k) ∧ sr_01 u.2) ds 0 (a8, a9) (by omega) ⟨fun _ _ => ⟨rfl, rfl⟩, fun k hk => absurd hk (by omega), h01⟩ ?_ ?_
  · rintro n ⟨b8, b9⟩ ⟨g1, g2, g3⟩
    refine pk_le ds ds (fun _ => nm_r (nI_1 c) ?_) (fun z => absurd z (by omega))
    have e : nI (c + 1) - 1 = nI c := nI_pred c
    rw [e]
    exact H b8 b9 g1 g2 g3
  · rintro n i ⟨b8, b9⟩ hi ⟨g1, g2, g3⟩ hw
    dsimp only at g1 g2 g3
    have ei : (nI i).toNatClampNeg = i := nI_clamp (by omega)
    have E : (3 : Int32) * nI c + nI i = nI (3 * c + i) := by rw [sr_3m, nI_add]
    have C : ((3 : Int32) * nI c + nI i).toNatClampNeg = 3 * c + i := by rw [E, nI_clamp (by omega)]
    have I1 : vp_in (nI i) 3 := pk_in i 3 (by omega)
    have I2 : vp_in ((3 : Int32) * nI c + nI i) 42 := pk_in (3 * c + i) 42 (by omega) E
    refine pk_le ds i (fun z => absurd z (by omega)) (fun _ => ⟨I1, I2, nm_r (e' := upd b8 (3 * c + i) (a10 i)) (by dsimp only; rw [C, ei]) ⟨I1, I2, nm_r (e' := upd b9 (3 * c + i) (a11 i)) (by dsimp only; rw [C, ei, sr_nar (h11 i)]) (nm_r (nI_1 i) (hw (upd b8 (3 * c + i) (a10 i), upd b9 (3 * c + i) (a11 i)) ⟨?_, ?_, ?_⟩))⟩⟩)
    · intro j hj
      dsimp only
      rw [pk_un (by omega), pk_un (by omega)]
      exact g1 j hj
    · intro k hk
      dsimp only
      by_cases e : k = i
      · rw [e, pk_us, pk_us]; exact ⟨rfl, rfl⟩
      · rw [pk_un (by omega), pk_un (by omega)]
        exact g2 k (by omega)
    · exact sr_01_put g3 (h11 i)
theorem sr_r123 {post : Int32 → St1 → Prop} {x3 : Int32} (c ds p : Nat) (D : Nat → Nat) (hc : c < 14) (hd : ds ≤ 3) (h1 : f1 = nI c) (h2 : f2 = nI ds) (h01 : sr_01 a9) (h11 : sr_01 a11)
    (hD : ∀ k, k < ds → a10 k = nI (D k) ∧ D k < 800) (hs : ∀ t, t < 4 → sr_bt x3 t = true → ∃ k, k < ds ∧ a11 k = 0 ∧ sr_iv t (D k)) (H0 : ∀ z, z < 0 → post z (f1, f2, f3, f4, f5, f6, f7, f8, f9, a1, a2, a3, a4, a5, a6, a7, a8, a9, a10, a11, a12, a13, a14))
    (H1 : (∀ t, t < 4 → (sr_iv t p ∨ ∃ k, k < ds ∧ ¬ a11 k = 0 ∧ sr_iv t (D k)) → ∃ k, k < ds ∧ a11 k = 0 ∧ sr_iv t (D k)) →
      ∀ b8 b9, (∀ j, j < 3 * c → b8 j = a8 j ∧ b9 j = a9 j) → (∀ k, k < ds → b8 (3 * c + k) = a10 k ∧ b9 (3 * c + k) = a11 k) → sr_01 b9 → post (nI c) ((nI (c + 1)), 0, f3, f4, f5, f6, f7, f8, 0, a1, a2, a3, a4, a5, (upd a6 c (nI p)), (upd a7 c (nI ds)), b8, b9, a10, a11, a12, a13, a14)) :
    ∀ v, (∀ t, t < 4 → (sr_bt v t = true ↔ sr_iv t p)) → ∃ n, wX_rule_123 post (nI p) x3 f1 f2 f3 f4 f5 f6 f7 f8 f9 a1 a2 a3 a4 a5 a6 a7 a8 a9 a10 a11 a12 a13 a14 n v 0 := by
  subst h1 h2
  intro v hv
  refine pk_loop (σ := Int32) (fun n i x4 => wX_rule_123 post (nI p) x3 (nI c) (nI ds) f3 f4 f5 f6 f7 f8 f9 a1 a2 a3 a4 a5 a6 a7 a8 a9 a10 a11 a12 a13 a14 n x4 (nI i)) (fun i x4 => (∀ t, t < 4 → sr_iv t p → sr_bt x4 t = true) ∧ (∀ k, k < i → ¬ a11 k = 0 → ∀ t, t < 4 → sr_iv t (D k) → sr_bt x4 t = true)) ds 0 v (by omega)
    ⟨fun t ht g => (hv t ht).mpr g, fun k hk => absurd hk (by omega)⟩ ?_ ?_
  · intro n x4 hI
    refine pk_le ds ds (fun _ => br_c (fun g => ?_) (fun g => H0 _ (by decide))) (fun z => absurd z (by omega))
    have ec : (nI c).toNatClampNeg = c := nI_clamp (by omega)
    refine ⟨pk_in c 14 hc, nm_r (e' := upd a6 c (nI p)) (by rw [ec]) ⟨pk_in c 14 hc, nm_r (e' := upd a7 c (nI ds)) (by rw [ec]) ?_⟩⟩
    refine sr_r205 c ds hc hd rfl rfl h01 h11 (H1 (fun t ht hv' => hs t ht (sr_sub0 g ht ?_)))
    rcases hv' with q | ⟨k, hk, q1, q2⟩
    · exact hI.1 t ht q
    · exact hI.2 k hk q1 t ht q2
  · intro n i x4 hi hI hw
    have ei : (nI i).toNatClampNeg = i := nI_clamp (by omega)
    have E : a10 (nI i).toNatClampNeg = nI (D i) := by rw [ei]; exact (hD i hi).1
    refine pk_le ds i (fun z => absurd z (by omega)) (fun _ => ⟨pk_in i 3 (by omega), br_c (fun g => nm_e (nm_r (nI_1 i) (hw _ ⟨fun t ht q => ?_, fun k hk q1 t ht q2 => ?_⟩))) (fun g => ⟨pk_in i 3 (by omega), sr_vars (D i) (hD i hi).2 (fun v' hv' => nm_e (nm_r (nI_1 i) (hw _ ⟨fun t ht q => ?_, fun k hk q1 t ht q2 => ?_⟩))) E⟩)⟩)
    · rw [sr_bor, hI.1 t ht q, Bool.true_or]
    · rw [ei] at g
      by_cases e : k = i
      · rw [e] at q1; exact absurd g q1
      · rw [sr_bor, hI.2 k (by omega) q1 t ht q2, Bool.true_or]
    · rw [sr_bor, hI.1 t ht q, Bool.true_or]
    · by_cases e : k = i
      · rw [e] at q2
        rw [sr_bor, (hv' t ht).mpr q2, Bool.or_true]
      · rw [sr_bor, hI.2 k (by omega) q1 t ht q2, Bool.true_or]
theorem sr_r61 {post : Int32 → St1 → Prop} {J : Int32 → Int32 → Prop} {x1 x2 x3 z0 : Int32} (ds i : Nat) (D : Nat → Nat) (hd : ds ≤ 3) (hi : i < ds) (hD : ∀ k, k < ds → a10 k = nI (D k) ∧ D k < 800) (H0 : ∀ z, z < 0 → post z (f1, f2, f3, f4, f5, f6, f7, f8, f9, a1, a2, a3, a4, a5, a6, a7, a8, a9, a10, a11, a12, a13, a14))
    (HJ : nI (D i / 200) ≤ z0 → ∀ v, (∀ t, t < 4 → sr_bt v t = true → sr_bt x3 t = true ∨ (a11 i = 0 ∧ sr_iv t (D i))) → J v (nI (i + 1))) : wX_rule_61 post J x1 x2 x3 (nI i) z0 f1 f2 f3 f4 f5 f6 f7 f8 f9 a1 a2 a3 a4 a5 a6 a7 a8 a9 a10 a11 a12 a13 a14 := by
  have ei : (nI i).toNatClampNeg = i := nI_clamp (by omega)
  have E : a10 (nI i).toNatClampNeg = nI (D i) := by rw [ei]; exact (hD i hi).1
  have hDi := (hD i hi).2
  have EL : a10 (nI i).toNatClampNeg / 200 = nI (D i / 200) := by rw [E]; exact pk_div (d := 200) (by omega) (by omega) (by omega)
  unfold wX_rule_61
  refine ⟨pk_in i 3 (by omega), by decide, ?_⟩
  rw [EL]
  refine br_c (fun g => ⟨pk_in i 3 (by omega), br_c (fun g2 => ⟨pk_in i 3 (by omega), sr_vars (D i) hDi (fun v hv => nm_e (nm_r (nI_1 i) (HJ g _ (fun t ht q => ?_)))) E⟩) (fun g2 => nm_e (nm_r (nI_1 i) (HJ g _ (fun t ht q => ?_))))⟩) (fun g => H0 _ (by decide))
  · rw [ei] at g2
    rw [sr_bor, Bool.or_eq_true] at q
    rcases q with q | q
    · exact Or.inl q
    · exact Or.inr ⟨g2, (hv t ht).mp q⟩
  · rw [sr_bor, sr_b0, Bool.or_false] at q
    exact Or.inl q
theorem sr_rule {post : Int32 → St1 → Prop} (c ds p : Nat) (D : Nat → Nat) (hp : p < 800) (hc : c ≤ 14) (hd : ds ≤ 3) (h1 : f1 = nI c) (h2 : f2 = nI ds) (h01 : sr_01 a9) (h11 : sr_01 a11)
    (hD : ∀ k, k < ds → a10 k = nI (D k) ∧ D k < 800) (H0 : ∀ z, z < 0 → post z (f1, f2, f3, f4, f5, f6, f7, f8, f9, a1, a2, a3, a4, a5, a6, a7, a8, a9, a10, a11, a12, a13, a14))
    (H1 : c < 14 → (∀ k, k < ds → D k / 200 ≤ p / 200) → (∀ t, t < 4 → (sr_iv t p ∨ ∃ k, k < ds ∧ ¬ a11 k = 0 ∧ sr_iv t (D k)) → ∃ k, k < ds ∧ a11 k = 0 ∧ sr_iv t (D k)) →
      ∀ b8 b9, (∀ j, j < 3 * c → b8 j = a8 j ∧ b9 j = a9 j) → (∀ k, k < ds → b8 (3 * c + k) = a10 k ∧ b9 (3 * c + k) = a11 k) → sr_01 b9 → post (nI c) ((nI (c + 1)), 0, f3, f4, f5, f6, f7, f8, 0, a1, a2, a3, a4, a5, (upd a6 c (nI p)), (upd a7 c (nI ds)), b8, b9, a10, a11, a12, a13, a14)) :
    wpX_rule post (f1, f2, f3, f4, f5, f6, f7, f8, f9, a1, a2, a3, a4, a5, a6, a7, a8, a9, a10, a11, a12, a13, a14) (nI p) := by
  have E1 := h1
  have E2 := h2
  subst h1 h2
  have EP : nI p / 200 = nI (p / 200) := pk_div (d := 200) (by omega) (by omega) (by omega)
  refine br_f (nI_pos (by omega)) (pk_le p 799 (fun _ => pk_eq c 14 (fun _ => H0 _ (by decide)) (fun g => ⟨by decide, ?_⟩)) (fun z => absurd z (by omega)))
  rw [EP]
  refine pk_loop (σ := Int32) (fun n i x3 => wX_rule_35 post (nI p) (nI (p / 200)) (nI c) (nI ds) f3 f4 f5 f6 f7 f8 f9 a1 a2 a3 a4 a5 a6 a7 a8 a9 a10 a11 a12 a13 a14 n x3 (nI i)) (fun i x3 => (∀ k, k < i → D k / 200 ≤ p / 200) ∧ ∀ t, t < 4 → sr_bt x3 t = true → ∃ k, k < i ∧ a11 k = 0 ∧ sr_iv t (D k)) ds 0 0 (by omega)
    ⟨fun k hk => absurd hk (by omega), fun t _ q => by rw [sr_b0] at q; exact absurd q (by decide)⟩ ?_ ?_
  · intro n x3 hI
    exact pk_le ds ds (fun _ => sr_vars p hp (fun v hv => sr_r123 c ds p D (by omega) hd rfl rfl h01 h11 hD hI.2 H0 (H1 (by omega) hI.1) v hv)) (fun z => absurd z (by omega))
  · intro n i x3 hi hI hw
    have nx : ∀ z0 : Int32, (nI (D i / 200) ≤ z0 → D i / 200 ≤ p / 200) → wX_rule_61 post (wX_rule_35 post (nI p) (nI (p / 200)) (nI c) (nI ds) f3 f4 f5 f6 f7 f8 f9 a1 a2 a3 a4 a5 a6 a7 a8 a9 a10 a11 a12 a13 a14 n) (nI p) (nI (p / 200)) x3 (nI i) z0 (nI c) (nI ds) f3 f4 f5 f6 f7 f8 f9 a1 a2 a3 a4 a5 a6 a7 a8 a9 a10 a11 a12 a13 a14 := by
      intro z0 hz
      refine sr_r61 ds i D hd hi hD H0 (fun g v hv => hw v ⟨fun k hk => ?_, fun t ht q => ?_⟩)
      · by_cases e : k = i
        · rw [e]; exact hz g
        · exact hI.1 k (by omega)
      · rcases hv t ht q with q' | q'
        · obtain ⟨k, hk, r1, r2⟩ := hI.2 t ht q'
          exact ⟨k, by omega, r1, r2⟩
        · exact ⟨i, by omega, q'.1, q'.2⟩
    have hDi := (hD i hi).2
    refine pk_le ds i (fun z => absurd z (by omega)) (fun _ => ⟨pk_in i 3 (by omega), br_c (fun _ => nx _ (fun q => (nI_leI (by omega) (by omega)).mp q)) (fun _ => nx _ (fun q => ?_))⟩)
    have t := Int32.le_iff_toInt_le.mp q
    have e : (nI (p / 200) - 1).toInt = ((p / 200 : Nat) : Int) - ((1 : Nat) : Int) := pk_sub_toInt (a := p / 200) (b := 1) (by omega) (by omega)
    rw [e, nI_toInt (by omega)] at t
    omega
end
end
section
/-! ===== the heads that the law keeps, four bits each ===== -/
def sr_NB (x : Int64) (r h : Nat) : Prop := ∀ i, i < 4 → sr_tb x (4 * r + i) = h.testBit i
theorem sr_b15 : ∀ i, i < 32 → sr_bt 15 i = decide (i < 4) := by decide +kernel
theorem sr_b32 (y : Int64) {i : Nat} (hi : i < 32) : sr_bt y.toInt32 i = sr_tb y i := by
  show (y.toBitVec.signExtend 32).getLsbD i = y.toBitVec.getLsbD i
  rw [BitVec.getLsbD_signExtend, if_pos (by omega), decide_eq_true hi, Bool.true_and]
theorem sr_nib {x : Int64} {r h : Nat} (hx : sr_NB x r h) (hr : r < 14) (hh : h < 8) : ((x >>> ((4 * nI r).toInt64 &&& 63)).toInt32) &&& 15 = nI h := by
  rw [sr_4m]
  apply Int32.toBitVec_inj.mp
  apply BitVec.eq_of_getLsbD_eq
  intro i hi
  show sr_bt (((x >>> ((nI (4 * r)).toInt64 &&& 63)).toInt32) &&& 15) i = (BitVec.ofNat 32 h).getLsbD i
  rw [sr_band, sr_b15 i hi, sr_b32 _ hi, BitVec.getLsbD_ofNat, decide_eq_true hi, Bool.true_and]
  by_cases e : i < 4
  · rw [decide_eq_true e, Bool.and_true, sr_sshr (by omega) _ (by omega)]
    exact hx i e
  · rw [decide_eq_false e, Bool.and_false]
    have : 2 ^ 4 ≤ 2 ^ i := Nat.pow_le_pow_right (by decide) (by omega)
    exact (Nat.testBit_lt_two_pow (by omega)).symm
theorem sr_hput {x : Int64} {n p r h : Nat} (hn : n < 14) (hp : p < 800) : (sr_NB x r h → r < n → sr_NB ((x &&& (((15 : Int64) <<< ((4 * nI n).toInt64 &&& 63)) ^^^ (-1))) ||| (((nI p / 100).toInt64) <<< ((4 * nI n).toInt64 &&& 63))) r h) ∧
    sr_NB ((x &&& (((15 : Int64) <<< ((4 * nI n).toInt64 &&& 63)) ^^^ (-1))) ||| (((nI p / 100).toInt64) <<< ((4 * nI n).toInt64 &&& 63))) n (p / 100) := by
  rw [sr_4m, sr_d100 (by omega), nI_l (n := p / 100) (by omega)]
  constructor
  · intro hx hr i hi
    rw [sr_or, sr_and, sr_not _ (by omega), sr_shl (by omega) _ (by omega), sr_shl (by omega) _ (by omega), decide_eq_false (by omega), Bool.false_and, Bool.false_and, Bool.not_false, Bool.and_true, Bool.or_false]
    exact hx i hi
  · intro i hi
    rw [sr_or, sr_and, sr_not _ (by omega), sr_shl (by omega) _ (by omega), sr_shl (by omega) _ (by omega), decide_eq_true (by omega), show 4 * n + i - 4 * n = i by omega, sr_t15 i (by omega), decide_eq_true hi, sr_lN (by omega), Bool.true_and, Bool.true_and, Bool.not_true, Bool.and_false, Bool.false_or]
theorem sr_hdrop {x : Int64} {r k h : Nat} (hr : r < 14) (hk : k < 13) : (sr_NB x k h → k < r → sr_NB ((x &&& (((1 : Int64) <<< ((4 * nI r).toInt64 &&& 63)) - 1)) ||| (((x >>> ((4 * nI r).toInt64 &&& 63)) >>> ((4 : Int32).toInt64 &&& 63)) <<< ((4 * nI r).toInt64 &&& 63))) k h) ∧
    (sr_NB x (k + 1) h → r ≤ k → sr_NB ((x &&& (((1 : Int64) <<< ((4 * nI r).toInt64 &&& 63)) - 1)) ||| (((x >>> ((4 * nI r).toInt64 &&& 63)) >>> ((4 : Int32).toInt64 &&& 63)) <<< ((4 * nI r).toInt64 &&& 63))) k h) := by
  rw [sr_4m, show ((4 : Int32).toInt64 &&& 63) = ((nI 4).toInt64 &&& 63) from rfl]
  constructor
  · intro hx hkr i hi
    rw [sr_or, sr_and, sr_lo _ (by omega) _ (by omega), sr_shl (by omega) _ (by omega), decide_eq_true (show 4 * k + i < 4 * r by omega), decide_eq_false (show ¬ 4 * r ≤ 4 * k + i by omega), Bool.and_true, Bool.false_and, Bool.or_false]
    exact hx i hi
  · intro hx hkr i hi
    rw [sr_or, sr_and, sr_lo _ (by omega) _ (by omega), sr_shl (by omega) _ (by omega), decide_eq_false (show ¬ 4 * k + i < 4 * r by omega), decide_eq_true (show 4 * r ≤ 4 * k + i by omega), Bool.and_false, Bool.true_and, Bool.false_or,
      sr_sshr (by omega) _ (by omega), sr_sshr (by omega) _ (by omega), show 4 * r + (4 + (4 * k + i - 4 * r)) = 4 * (k + 1) + i by omega]
    exact hx i hi
/-! ===== what the law checks at each turn ===== -/
section
variable {f1 f2 f3 f4 f5 f6 f7 f8 f9 : Int32} {a1 a2 a3 a4 a5 : Nat → Int64} {a6 a7 a8 a9 a10 a11 a12 a13 a14 : Nat → Int32}
theorem sr_h173 {post : Int32 → St1 → Prop} (c r h : Nat) (hc : c ≤ 14) (hr : r < c) (h1 : f1 = nI c) (hR : ∀ r, r < c → sr_ok a6 a7 a8 a9 r) (h9 : ¬ f9 = 0) (hL : sr_LI c 4 a1 a2 a6 a7 a8 a9) (hh : h = sr_n a6 r / 100)
    (H : ∀ e4 e5 e6 e7 e8 b4 b12 b13 b14, post 1 (f1, f2, f3, e4, e5, e6, e7, e8, f9, a1, a2, a3, b4, a5, a6, a7, a8, a9, a10, a11, b12, b13, b14)) :
    ∀ g f, f + g = 36 → ∀ e4 e5 e6 e7 e8 b4 b12 b13 b14, wL_holds_173 post (nI r) (nI h) (g + 1) (nI f) f1 f2 f3 e4 e5 e6 e7 e8 f9 a1 a2 a3 b4 a5 a6 a7 a8 a9 a10 a11 b12 b13 b14 := by
  have h800 := (hR r hr).1.2.1
  intro g
  induction g with
  | zero =>
    intro f hf e4 e5 e6 e7 e8 b4 b12 b13 b14
    exact pk_le 36 f (fun _ => H _ _ _ _ _ _ _ _ _) (fun z => absurd z (by omega))
  | succ g ih =>
    intro f hf e4 e5 e6 e7 e8 b4 b12 b13 b14
    refine pk_le 36 f (fun z => absurd z (by omega)) (fun _ => ?_)
    refine sr_supports c r f hc hr (by omega) h1 hR h9 (fun e4 e5 e6 e7 e8 b4 b12 b13 b14 hs => br_t rfl ⟨by decide, by decide, ?_⟩) (fun e4 e5 e6 e7 e8 b4 b12 b13 b14 => br_f (by decide) (nm_r (nI_1 f) (ih (f + 1) (by omega) _ _ _ _ _ _ _ _ _)))
    refine sr_holds h (f / 6) (f % 6) (by omega) (by omega) (by omega) h9 (fun _ => br_t rfl (nm_r (nI_1 f) (ih (f + 1) (by omega) _ _ _ _ _ _ _ _ _))) (fun z => ?_) (sr_d6 (by omega)) (sr_r6 (by omega))
    obtain ⟨s, q1, q2⟩ := hs
    have t := hL.2.2 r hr (by omega) s q1
    rw [q2, ← hh] at t
    rw [show 6 * (f / 6) + f % 6 = f by omega, t] at z
    exact absurd z (by decide)
theorem sr_h153 {post : Int32 → St1 → Prop} {x3 : Int64} (c r : Nat) (hc : c ≤ 14) (hr : r < 16) (h1 : f1 = nI c) (hR : ∀ r, r < c → sr_ok a6 a7 a8 a9 r) (h9 : ¬ f9 = 0) (hL : sr_LI c 4 a1 a2 a6 a7 a8 a9) (hN : ∀ r, r < c → sr_NB x3 r (sr_n a6 r / 100))
    (H : ∀ e4 e5 e6 e7 e8 b4 b12 b13 b14, post 1 (f1, f2, f3, e4, e5, e6, e7, e8, f9, a1, a2, a3, b4, a5, a6, a7, a8, a9, a10, a11, b12, b13, b14)) : wL_holds_153 post (nI r) x3 (nI c) f1 f2 f3 f4 f5 f6 f7 f8 f9 a1 a2 a3 a4 a5 a6 a7 a8 a9 a10 a11 a12 a13 a14 := by
  refine pk_le c r (fun _ => H _ _ _ _ _ _ _ _ _) (fun g => ?_)
  have h800 := (hR r g).1.2.1
  exact nm_r (sr_nib (hN r g) (by omega) (by omega)) ⟨37, sr_h173 c r _ hc g h1 hR h9 hL rfl H 36 0 rfl _ _ _ _ _ _ _ _ _⟩
theorem sr_h109 {post : Int32 → St1 → Prop} {x3 : Int64} (c q r : Nat) (hc : c ≤ 14) (hq : q < 8) (hr : r < 16) (h1 : f1 = nI c) (hR : ∀ r, r < c → sr_ok a6 a7 a8 a9 r) (h9 : ¬ f9 = 0) (hL : sr_LI c 4 a1 a2 a6 a7 a8 a9) (hN : ∀ r, r < c → sr_NB x3 r (sr_n a6 r / 100))
    (H : ∀ e4 e5 e6 e7 e8 b4 b12 b13 b14, post 1 (f1, f2, f3, e4, e5, e6, e7, e8, f9, a1, a2, a3, b4, a5, a6, a7, a8, a9, a10, a11, b12, b13, b14)) : ∃ n, wL_holds_109 post (nI q) (nI r) x3 (nI c) (nI (sr_bc (a2 q) 36)) (nI (sr_bc (a1 q) 36)) f1 f2 f3 f4 f5 f6 f7 f8 f9 a1 a2 a3 a4 a5 a6 a7 a8 a9 a10 a11 a12 a13 a14 n 0 0 := by
  refine pk_loop (σ := Int32) (fun n i x9 => wL_holds_109 post (nI q) (nI r) x3 (nI c) (nI (sr_bc (a2 q) 36)) (nI (sr_bc (a1 q) 36)) f1 f2 f3 f4 f5 f6 f7 f8 f9 a1 a2 a3 a4 a5 a6 a7 a8 a9 a10 a11 a12 a13 a14 n x9 (nI i)) (fun i x9 => x9 = 0 → ∀ r, r < i → ¬ sr_n a6 r / 100 = q) c 0 0 (by omega) (fun _ r hr => absurd hr (by omega)) ?_ ?_
  · intro n x9 hI
    refine pk_le c c (fun _ => br_c (fun g => br_t ?_ (sr_h153 c r hc hr h1 hR h9 hL hN H)) (fun g => sr_h153 c r hc hr h1 hR h9 hL hN H)) (fun z => absurd z (by omega))
    rw [hL.2.1 q hq (hI g)]
  · intro n i x9 hi hI hw
    have h800 := (hR i hi).1.2.1
    have e := sr_nib (hN i hi) (by omega) (by omega)
    refine pk_le c i (fun z => absurd z (by omega)) (fun _ => br_c (fun g => nm_r (nI_1 i) (hw 1 (fun z => absurd z (by decide)))) (fun g => nm_r (nI_1 i) (hw x9 (fun z r' hr' => ?_))))
    by_cases er : r' = i
    · rw [er]
      intro z'
      rw [e, z'] at g
      exact g rfl
    · exact hI z r' (by omega)
theorem sr_h22 {post : Int32 → St1 → Prop} {x3 : Int64} (c q r : Nat) (hc : c ≤ 14) (hq : q < 8) (hr : r < 16) (h1 : f1 = nI c) (hR : ∀ r, r < c → sr_ok a6 a7 a8 a9 r) (h9 : ¬ f9 = 0) (hL : sr_LI c 4 a1 a2 a6 a7 a8 a9) (hN : ∀ r, r < c → sr_NB x3 r (sr_n a6 r / 100))
    (H : ∀ e4 e5 e6 e7 e8 b4 b12 b13 b14, post 1 (f1, f2, f3, e4, e5, e6, e7, e8, f9, a1, a2, a3, b4, a5, a6, a7, a8, a9, a10, a11, b12, b13, b14)) : ∃ n, wL_holds_22 post (nI q) (nI r) x3 (nI c) (nI (sr_bc (a2 q) 36)) n 0 0 0 f1 f2 f3 f4 f5 f6 f7 f8 f9 a1 a2 a3 a4 a5 a6 a7 a8 a9 a10 a11 a12 a13 a14 := by
  refine pk_loop (σ := Unit) (fun n i _ => wL_holds_22 post (nI q) (nI r) x3 (nI c) (nI (sr_bc (a2 q) 36)) n (nI (sr_bc (a2 q) (6 * i))) (nI (sr_bc (a1 q) (6 * i))) (nI i) f1 f2 f3 f4 f5 f6 f7 f8 f9 a1 a2 a3 a4 a5 a6 a7 a8 a9 a10 a11 a12 a13 a14) (fun _ _ => True) 6 0 () (by omega) trivial ?_ ?_
  · intro n _ _
    exact pk_le 6 6 (fun _ => br_t rfl (sr_h109 c q r hc hq hr h1 hR h9 hL hN H)) (fun z => absurd z (by omega))
  · intro n i _ hi _ hw
    refine pk_le 6 i (fun z => absurd z (by omega)) (fun _ => ?_)
    refine sr_fan q i hq hi h9 (nm_r (e' := nI (sr_bc (a2 q) (6 * (i + 1)))) (by rw [nI_add, sr_bc_row _ hi]) ?_)
    refine pk_loop (σ := Unit) (fun m y _ => wL_holds_44 post (wL_holds_22 post (nI q) (nI r) x3 (nI c) (nI (sr_bc (a2 q) 36)) n) (nI q) (nI r) x3 (nI c) (nI (sr_bc (a2 q) 36)) (nI (sr_bc (a2 q) (6 * (i + 1)))) (nI i) m (nI (sr_bc (a1 q) (6 * i + y))) (nI y) f1 f2 f3 f4 f5 f6 f7 f8 f9 a1 a2 a3 a4 a5 a6 a7 a8 a9 a10 a11 a12 a13 a14) (fun _ _ => True) 6 0 () (by omega) trivial ?_ ?_
    · intro m _ _
      exact pk_le 6 6 (fun _ => nm_r (nI_1 i) (hw () trivial)) (fun z => absurd z (by omega))
    · intro m y _ hy _ hw2
      have hw2' := hw2 () trivial
      refine pk_le 6 y (fun z => absurd z (by omega)) (fun _ => sr_given q i y hq hi hy (fun g => br_t rfl (nm_r (e' := nI (sr_bc (a1 q) (6 * i + (y + 1)))) ?_ ?_)) (fun g => br_f (by decide) (nm_r (nI_1 y) ?_)))
      · rw [nI_1, ← Nat.add_assoc, sr_bc, if_pos g]
      · refine sr_holds q i y hq hi hy h9 (fun _ => br_t rfl (nm_r (nI_1 y) hw2')) (fun z => ?_) rfl rfl
        rw [hL.1 q hq _ g] at z
        exact absurd z (by decide)
      · have e : sr_bc (a1 q) (6 * i + y) = sr_bc (a1 q) (6 * i + (y + 1)) := by
          rw [← Nat.add_assoc, sr_bc, g, if_neg (by decide), Nat.add_zero]
        rw [e]
        exact hw2'
theorem sr_check {post : Int32 → St1 → Prop} {x3 : Int64} (c q r : Nat) (hc : c ≤ 14) (hq : q < 8) (hr : r < 16) (h1 : f1 = nI c) (h3 : f3 = -1) (hR : ∀ r, r < c → sr_ok a6 a7 a8 a9 r) (hS : ¬ f9 = 0 → sr_LI c 4 a1 a2 a6 a7 a8 a9) (hN : ∀ r, r < c → sr_NB x3 r (sr_n a6 r / 100))
    (H : ∀ e4 e5 e6 e7 e8 e9 b2 b3 b4 b12 b13 b14, ¬ e9 = 0 → sr_LI c 4 a1 b2 a6 a7 a8 a9 → post 1 (f1, f2, f3, e4, e5, e6, e7, e8, e9, a1, b2, b3, b4, a5, a6, a7, a8, a9, a10, a11, b12, b13, b14)) : wpL_holds post (f1, f2, f3, f4, f5, f6, f7, f8, f9, a1, a2, a3, a4, a5, a6, a7, a8, a9, a10, a11, a12, a13, a14) (nI q) (nI r) x3 := by
  unfold wpL_holds wpX_rules
  dsimp only
  refine sr_size c q hq hc h1 h3 hR hS (fun e4 e5 e6 e7 e8 e9 b2 b3 b4 b12 b13 b14 h9 hL => ?_)
  subst h1
  exact sr_h22 c q r hc hq hr rfl hR h9 hL hN (fun e4 e5 e6 e7 e8 b4 b12 b13 b14 => H _ _ _ _ _ _ _ _ _ _ _ _ h9 hL)
end
end
section
/-! ===== the law ===== -/
def sr_INV (c ds : Nat) (hd : Int64) (f1 f2 f3 f9 : Int32) (a1 a2 : Nat → Int64) (a6 a7 a8 a9 a10 a11 : Nat → Int32) : Prop :=
  c ≤ 14 ∧ ds ≤ 3 ∧ f1 = nI c ∧ f2 = nI ds ∧ f3 = -1 ∧ (∀ r, r < c → sr_ok a6 a7 a8 a9 r) ∧ (¬ f9 = 0 → sr_LI c 4 a1 a2 a6 a7 a8 a9) ∧ sr_01 a9 ∧ sr_01 a11 ∧ (∀ k, k < ds → a10 k = nI (sr_n a10 k) ∧ sr_n a10 k < 800) ∧ (∀ r, r < c → sr_NB hd r (sr_n a6 r / 100))
theorem sr_n_us {a : Nat → Int32} {k n : Nat} (h : n < 2 ^ 31) : sr_n (upd a k (nI n)) k = n := by unfold sr_n; rw [pk_us, nI_clamp h]
theorem sr_n_un {a : Nat → Int32} {k j : Nat} {x : Int32} (h : j ≠ k) : sr_n (upd a k x) j = sr_n a j := by unfold sr_n; rw [pk_un h]
theorem sr_a3 (x : Int32) : ∃ j, j < 4 ∧ x &&& 3 = nI j := pk_andE x 2 (by decide)
theorem sr_a1 (x : Int32) : ∃ j, j < 2 ∧ x &&& 1 = nI j := pk_andE x 1 (by decide)
theorem sr_a7 (x : Int32) : ∃ j, j < 8 ∧ x &&& 7 = nI j := pk_andE x 3 (by decide)
theorem sr_a15 (x : Int32) : ∃ j, j < 16 ∧ x &&& 15 = nI j := pk_andE x 4 (by decide)
theorem sr_a7r (x : Int32) : ∃ j, j < 6 ∧ (x &&& 7) - (x &&& 7) / 6 * 6 = nI j := by
  obtain ⟨j, hj, e⟩ := sr_a7 x
  exact ⟨j % 6, by omega, by rw [e, sr_r6 (by omega)]⟩
theorem sr_atom {post : Int32 → Prop} {u : St2} {x : Int32} (H : ∀ p, p < 800 → post (nI p)) : wpL_atom post u x := by
  have key : ∀ i j : Nat, i < 8 → j < 8 → post (((100 * (x &&& 7)) + (10 * nI i)) + nI j) := by
    intro i j hi hj
    obtain ⟨q, hq, e⟩ := sr_a7 x
    have e' : ((100 * (x &&& 7)) + (10 * nI i)) + nI j = nI (100 * q + 10 * i + j) := by
      rw [e, show (100 : Int32) * nI q = nI (100 * q) from pk_mul 100 q, show (10 : Int32) * nI i = nI (10 * i) from pk_mul 10 i, nI_add, nI_add]
    rw [e']
    exact H _ (by omega)
  have two : ∀ i : Nat, i < 8 → wL_atom_27 post x (nI i) := by
    intro i hi
    refine br_c (fun _ => ?_) (fun _ => ?_)
    · obtain ⟨j, hj, e⟩ := sr_a3 (x >>> ((11 : Int32) &&& 31))
      unfold wL_atom_64
      rw [e, show (4 : Int32) + nI j = nI (4 + j) from nI_add 4 j]
      exact key i (4 + j) hi (by omega)
    · obtain ⟨j, hj, e⟩ := sr_a1 (x >>> ((8 : Int32) &&& 31))
      obtain ⟨k, hk, e2⟩ := sr_a1 (x >>> ((9 : Int32) &&& 31))
      unfold wL_atom_64
      rw [e, e2, nI_add]
      exact key i (j + k) hi (by omega)
  refine br_c (fun _ => ?_) (fun _ => ?_)
  · obtain ⟨j, hj, e⟩ := sr_a3 (x >>> ((6 : Int32) &&& 31))
    rw [e, show (4 : Int32) + nI j = nI (4 + j) from nI_add 4 j]
    exact two (4 + j) (by omega)
  · obtain ⟨j, hj, e⟩ := sr_a1 (x >>> ((3 : Int32) &&& 31))
    rw [e]
    exact two j (by omega)
theorem sr_cell {post : Int32 → Prop} {L : Nat} {xs : Nat → Int32} {u : St2} {x : Int32} (k : Nat) (hL : L < 2 ^ 31) (hk : k < 2 ^ 31) (H : ∀ v, post v) (hx : x = nI k) : wpL_cell post L xs u x :=
  pk_le L k (fun _ => H _) (fun g => ⟨pk_in k L g hx, H _⟩) rfl hx
section
variable {f1 f2 f3 f4 f5 f6 f7 f8 f9 : Int32} {a1 a2 a3 a4 a5 : Nat → Int64} {a6 a7 a8 a9 a10 a11 a12 a13 a14 : Nat → Int32}
theorem sr_l301 {post : Int32 → Prop} {L : Nat} {xs : Nat → Int32} {x5 : Int32} {kc ks : Nat} {J : Int64 → Int32 → Int32 → Int32 → Int32 → Int32 → Int32 → Int32 → Int32 → Int32 → Int32 → (Nat → Int64) → (Nat → Int64) → (Nat → Int64) → (Nat → Int64) → (Nat → Int64) → (Nat → Int32) → (Nat → Int32) → (Nat → Int32) → (Nat → Int32) → (Nat → Int32) → (Nat → Int32) → (Nat → Int32) → (Nat → Int32) → (Nat → Int32) → Prop}
    (k c ds : Nat) (hd : Int64) (hI : sr_INV c ds hd f1 f2 f3 f9 a1 a2 a6 a7 a8 a9 a10 a11)
    (HJ : ∀ e4 e5 e6 e7 e8 e9 b2 b3 b4 b12 b13 b14, sr_INV c ds hd f1 f2 f3 e9 a1 b2 a6 a7 a8 a9 a10 a11 → J hd (nI (k + 2)) f1 f2 f3 e4 e5 e6 e7 e8 e9 a1 b2 b3 b4 a5 a6 a7 a8 a9 a10 a11 b12 b13 b14) :
    wL_law_301 post L xs J hd (nI k) x5 kc ks f1 f2 f3 f4 f5 f6 f7 f8 f9 a1 a2 a3 a4 a5 a6 a7 a8 a9 a10 a11 a12 a13 a14 := by
  obtain ⟨q, hq, e7⟩ := sr_a7 (x5 >>> ((4 : Int32) &&& 31))
  obtain ⟨r, hr, e15⟩ := sr_a15 (x5 >>> ((7 : Int32) &&& 31))
  unfold wL_law_301
  rw [e7, e15]
  obtain ⟨g1, g2, g3, g4, g5, g6, g7, g8, g9, g10, g11⟩ := hI
  refine sr_check c q r g1 hq hr g3 g5 g6 g7 g11 (fun e4 e5 e6 e7 e8 e9 b2 b3 b4 b12 b13 b14 h9 hL => br_f (by decide) (nm_r (nI_add k 2) (HJ _ _ _ _ _ _ _ _ _ _ _ _ ⟨g1, g2, g3, g4, g5, g6, fun _ => hL, g8, g9, g10, g11⟩)))
theorem sr_INV_body {c ds p : Nat} {hd : Int64} {v : Int32} (h : sr_INV c ds hd f1 f2 f3 f9 a1 a2 a6 a7 a8 a9 a10 a11) (hp : p < 800) (hds : ds < 3) (hv : v = 0 ∨ v = 1) : sr_INV c (ds + 1) hd f1 (nI (ds + 1)) f3 f9 a1 a2 a6 a7 a8 a9 (upd a10 ds (nI p)) (upd a11 ds v) := by
  obtain ⟨g1, g2, g3, g4, g5, g6, g7, g8, g9, g10, g11⟩ := h
  refine ⟨g1, by omega, g3, rfl, g5, g6, g7, g8, sr_01_put g9 hv, fun k hk => ?_, g11⟩
  by_cases e : k = ds
  · rw [e, sr_n_us (by omega), pk_us]; exact ⟨rfl, hp⟩
  · rw [sr_n_un e, pk_un e]; exact g10 k (by omega)
theorem sr_INV_rule {c ds p : Nat} {hd : Int64} {b1 b2 : Nat → Int64} {b8 b9 : Nat → Int32} (h : sr_INV c ds hd f1 f2 f3 f9 a1 a2 a6 a7 a8 a9 a10 a11) (hp : p < 800) (hc : c < 14) (hl : ∀ k, k < ds → sr_n a10 k / 200 ≤ p / 200)
    (hs : ∀ t, t < 4 → (sr_iv t p ∨ ∃ k, k < ds ∧ ¬ a11 k = 0 ∧ sr_iv t (sr_n a10 k)) → ∃ k, k < ds ∧ a11 k = 0 ∧ sr_iv t (sr_n a10 k))
    (h1 : ∀ j, j < 3 * c → b8 j = a8 j ∧ b9 j = a9 j) (h2 : ∀ k, k < ds → b8 (3 * c + k) = a10 k ∧ b9 (3 * c + k) = a11 k) (h3 : sr_01 b9) :
    sr_INV (c + 1) 0 ((hd &&& (((15 : Int64) <<< ((4 * nI c).toInt64 &&& 63)) ^^^ (-1))) ||| (((nI p / 100).toInt64) <<< ((4 * nI c).toInt64 &&& 63))) (nI (c + 1)) 0 f3 0 b1 b2 (upd a6 c (nI p)) (upd a7 c (nI ds)) b8 b9 a10 a11 := by
  obtain ⟨g1, g2, g3, g4, g5, g6, g7, g8, g9, g10, g11⟩ := h
  have n8 : ∀ k, k < ds → sr_n b8 (3 * c + k) = sr_n a10 k := fun k hk => by unfold sr_n; rw [(h2 k hk).1]
  refine ⟨by omega, by omega, rfl, rfl, g5, fun r hr => ?_, fun z => absurd rfl z, h3, g9, fun k hk => absurd hk (by omega), fun r hr => ?_⟩
  · by_cases e : r = c
    · subst e
      unfold sr_ok
      rw [sr_n_us (by omega), sr_n_us (by omega)]
      refine ⟨⟨pk_us, hp, pk_us, g2, fun k hk => ?_, fun t ht hv => ?_⟩, fun k hk => ?_⟩
      · dsimp only
        rw [n8 k hk, (h2 k hk).1]
        exact g10 k hk
      · have hv' : sr_iv t p ∨ ∃ k, k < ds ∧ ¬ a11 k = 0 ∧ sr_iv t (sr_n a10 k) := by
          rcases hv with z | ⟨k, hk, z1, z2⟩
          · exact Or.inl z
          · dsimp only at z2
            rw [n8 k hk] at z2
            rw [(h2 k hk).2] at z1
            exact Or.inr ⟨k, hk, z1, z2⟩
        obtain ⟨k, hk, z1, z2⟩ := hs t ht hv'
        refine ⟨k, hk, ?_, ?_⟩
        · rw [(h2 k hk).2]; exact z1
        · dsimp only
          rw [n8 k hk]; exact z2
      · rw [n8 k hk]
        exact hl k hk
    · exact sr_ok_congr (g6 r (by omega)) (pk_un e) (pk_un e) (fun k hk => (h1 _ (by omega)).1) (fun k hk => (h1 _ (by omega)).2)
  · by_cases e : r = c
    · rw [e, sr_n_us (by omega)]
      exact (sr_hput (x := hd) (r := 0) (h := 0) hc hp).2
    · rw [sr_n_un e]
      exact (sr_hput hc hp).1 (g11 r (by omega)) (by omega)
theorem sr_INV_drop {c ds r : Nat} {hd : Int64} {b1 b2 : Nat → Int64} {b6 b7 b8 b9 : Nat → Int32} (h : sr_INV c ds hd f1 f2 f3 f9 a1 a2 a6 a7 a8 a9 a10 a11) (hr : r < c)
    (h6 : sr_D r (c - 1) 1 a6 b6) (h7 : sr_D r (c - 1) 1 a7 b7) (h8 : sr_D (3 * r) (3 * (c - 1)) 3 a8 b8) (h9 : sr_D (3 * r) (3 * (c - 1)) 3 a9 b9) (h01 : sr_01 b9) :
    sr_INV (c - 1) ds ((hd &&& (((1 : Int64) <<< ((4 * nI r).toInt64 &&& 63)) - 1)) ||| (((hd >>> ((4 * nI r).toInt64 &&& 63)) >>> ((4 : Int32).toInt64 &&& 63)) <<< ((4 * nI r).toInt64 &&& 63))) (nI (c - 1)) f2 f3 0 b1 b2 b6 b7 b8 b9 a10 a11 := by
  obtain ⟨g1, g2, g3, g4, g5, g6, g7, g8, g9, g10, g11⟩ := h
  refine ⟨by omega, g2, rfl, g4, g5, fun k hk => ?_, fun z => absurd rfl z, h01, g9, g10, fun k hk => ?_⟩
  · by_cases e : k < r
    · exact sr_ok_congr (g6 k (by omega)) ((h6 k).2 (Or.inl e)) ((h7 k).2 (Or.inl e)) (fun i hi => (h8 _).2 (Or.inl (by omega))) (fun i hi => (h9 _).2 (Or.inl (by omega)))
    · refine sr_ok_congr (g6 (k + 1) (by omega)) ((h6 k).1 (by omega) hk) ((h7 k).1 (by omega) hk) (fun i hi => ?_) (fun i hi => ?_)
      · rw [(h8 (3 * k + i)).1 (by omega) (by omega)]
        congr 1
        omega
      · rw [(h9 (3 * k + i)).1 (by omega) (by omega)]
        congr 1
        omega
  · by_cases e : k < r
    · have e6 : sr_n b6 k = sr_n a6 k := by unfold sr_n; rw [(h6 k).2 (Or.inl e)]
      rw [e6]
      exact (sr_hdrop (by omega) (by omega)).1 (g11 k (by omega)) e
    · have e6 : sr_n b6 k = sr_n a6 (k + 1) := by unfold sr_n; rw [(h6 k).1 (by omega) hk]
      rw [e6]
      exact (sr_hdrop (by omega) (by omega)).2 (g11 (k + 1) (by omega)) (by omega)
end
theorem sr_law {post : Int32 → Prop} {L kc ks : Nat} {xs : Nat → Int32} (hL : L ≤ 260) (hpost : post 1) :
    ∀ g k, k ≤ L + 1 → L ≤ k + 2 * g → ∀ (c ds : Nat) (hd : Int64) (f1 f2 f3 f4 f5 f6 f7 f8 f9 : Int32) (a1 a2 a3 a4 a5 : Nat → Int64) (a6 a7 a8 a9 a10 a11 a12 a13 a14 : Nat → Int32), sr_INV c ds hd f1 f2 f3 f9 a1 a2 a6 a7 a8 a9 a10 a11 → wL_law_13 post L xs kc ks (g + 1) hd (nI k) f1 f2 f3 f4 f5 f6 f7 f8 f9 a1 a2 a3 a4 a5 a6 a7 a8 a9 a10 a11 a12 a13 a14 := by
  intro g
  induction g with
  | zero =>
    intro k hk hg c ds hd f1 f2 f3 f4 f5 f6 f7 f8 f9 a1 a2 a3 a4 a5 a6 a7 a8 a9 a10 a11 a12 a13 a14 hI
    exact pk_le L k (fun _ => hpost) (fun z => absurd z (by omega))
  | succ g ih =>
    intro k hk hg c ds hd f1 f2 f3 f4 f5 f6 f7 f8 f9 a1 a2 a3 a4 a5 a6 a7 a8 a9 a10 a11 a12 a13 a14 hI
    refine pk_le L k (fun _ => hpost) (fun hlt => ?_)
    have nx : ∀ (x5 : Int32) (c ds : Nat) (hd : Int64) (f1 f2 f3 f4 f5 f6 f7 f8 f9 : Int32) (a1 a2 a3 a4 a5 : Nat → Int64) (a6 a7 a8 a9 a10 a11 a12 a13 a14 : Nat → Int32), sr_INV c ds hd f1 f2 f3 f9 a1 a2 a6 a7 a8 a9 a10 a11 → wL_law_301 post L xs (wL_law_13 post L xs kc ks (g + 1)) hd (nI k) x5 kc ks f1 f2 f3 f4 f5 f6 f7 f8 f9 a1 a2 a3 a4 a5 a6 a7 a8 a9 a10 a11 a12 a13 a14 :=
      fun x5 c ds hd f1 f2 f3 f4 f5 f6 f7 f8 f9 a1 a2 a3 a4 a5 a6 a7 a8 a9 a10 a11 a12 a13 a14 hI => sr_l301 k c ds hd hI (fun e4 e5 e6 e7 e8 e9 b2 b3 b4 b12 b13 b14 hI' => ih (k + 2) (by omega) (by omega) c ds hd _ _ _ _ _ _ _ _ _ _ _ _ _ _ _ _ _ _ _ _ _ _ _ hI')
    refine sr_cell k (by omega) (by omega) (fun x => sr_cell (k + 1) (by omega) (by omega) (fun d => ?_) (nI_1 k)) rfl
    obtain ⟨vx, hvx, ex⟩ := sr_a7r (d >>> ((4 : Int32) &&& 31))
    obtain ⟨vy, hvy, ey⟩ := sr_a7r (d >>> ((7 : Int32) &&& 31))
    obtain ⟨d3, hd3, ed3⟩ := sr_a3 d
    obtain ⟨d7, hd7, ed7⟩ := sr_a7 d
    have hI0 := hI
    obtain ⟨g1, g2, g3, g4, g5, g6, g7, g8, g9, g10, g11⟩ := hI
    have hz : ∀ b1 : Nat → Int64, sr_INV c ds hd f1 f2 f3 0 b1 a2 a6 a7 a8 a9 a10 a11 := fun b1 => ⟨g1, g2, g3, g4, g5, g6, fun z => absurd rfl z, g8, g9, g10, g11⟩
    refine nm_e ⟨by decide, nm_r ex ⟨by decide, nm_r ey ?_⟩⟩
    refine br_c (fun _ => br_c (fun _ => ?_) (fun _ => br_c (fun _ => br_c (fun _ => br_c (fun _ => ?_) (fun _ => br_c (fun _ => ?_) (fun _ => nx _ c ds hd _ _ _ _ _ _ _ _ _ _ _ _ _ _ _ _ _ _ _ _ _ _ _ hI0))) (fun _ => ?_)) (fun _ => ?_))) (fun _ => ?_)
    · obtain ⟨va, hva, ea⟩ := sr_a3 (d >>> ((7 : Int32) &&& 31))
      obtain ⟨vb, hvb, eb⟩ := sr_a3 (d >>> ((9 : Int32) &&& 31))
      refine sr_chain d3 vx va vb (by omega) hvx hva hvb (fun z b1 => nx _ c ds hd _ _ _ _ _ _ _ _ _ _ _ _ _ _ _ _ _ _ _ _ _ _ _ (hz b1)) ed3 rfl ?_
      rw [ea, eb, show (8 : Int32) * nI va = nI (8 * va) from pk_mul 8 va, nI_1, nI_add]
    · exact nx _ c 0 hd _ _ _ _ _ _ _ _ _ _ _ _ _ _ _ _ _ _ _ _ _ _ _ ⟨g1, by omega, g3, rfl, g5, g6, g7, g8, g9, fun k hk => absurd hk (by omega), g11⟩
    · obtain ⟨r, hr, er⟩ := sr_a15 (d >>> ((2 : Int32) &&& 31))
      refine nm_r er (sr_drop r c hr g1 g3 g8 (br_t (by decide) (nx _ c ds hd _ _ _ _ _ _ _ _ _ _ _ _ _ _ _ _ _ _ _ _ _ _ _ hI0)) (fun hrc b6 b7 b8 b9 k6 k7 k8 k9 k0 => br_f (nI_pos (by omega)) (nm_e ?_)))
      exact nx _ (c - 1) ds _ _ _ _ _ _ _ _ _ _ _ _ _ _ _ _ _ _ _ _ _ _ _ _ (sr_INV_drop hI0 hrc k6 k7 k8 k9 k0)
    · refine sr_atom (fun p hp => sr_rule c ds p (fun k => sr_n a10 k) hp g1 g2 g3 g4 g8 g9 g10 (fun z hz => br_t hz (nx _ c ds hd _ _ _ _ _ _ _ _ _ _ _ _ _ _ _ _ _ _ _ _ _ _ _ hI0)) (fun hc hl hs b8 b9 k1 k2 k3 => br_f (nI_pos (by omega)) ⟨by decide, nm_e ?_⟩))
      exact nx _ (c + 1) 0 _ _ _ _ _ _ _ _ _ _ _ _ _ _ _ _ _ _ _ _ _ _ _ _ (sr_INV_rule hI0 hp hc hl hs k1 k2 k3)
    · have bd : ∀ (p : Nat) (y : Int32), p < 800 → wL_law_172 post L xs (wL_law_13 post L xs kc ks (g + 1)) hd (nI k) x y (nI p) kc ks f1 f2 f3 f4 f5 f6 f7 f8 f9 a1 a2 a3 a4 a5 a6 a7 a8 a9 a10 a11 a12 a13 a14 := by
        intro p y hp
        exact sr_body p ds hp g2 g4 (fun z => nx _ c ds hd _ _ _ _ _ _ _ _ _ _ _ _ _ _ _ _ _ _ _ _ _ _ _ hI0) (fun hds z v hv => nx _ c (ds + 1) hd _ _ _ _ _ _ _ _ _ _ _ _ _ _ _ _ _ _ _ _ _ _ _ (sr_INV_body hI0 hp hds hv))
      exact sr_atom (fun p hp => br_c (fun _ => bd p 1 hp) (fun _ => bd p 0 hp))
    · exact sr_give d7 vx vy hd7 hvx hvy (fun z b1 => nx _ c ds hd _ _ _ _ _ _ _ _ _ _ _ _ _ _ _ _ _ _ _ _ _ _ _ (hz b1)) ed7 rfl rfl
theorem i_vc (xs : Nat → Int32) (L : Nat) (hL : L ≤ 260) : wpL_law (fun r => r = 1) L xs := by
  refine ⟨14, 181, by decide, by decide, ?_⟩
  refine ⟨by decide, by decide, by decide, by decide, by decide, by decide, by decide, by decide, by decide, by decide, by decide, by decide, by decide, by decide, by decide, by decide, by decide, by decide, by decide, by decide, by decide, by decide, by decide, by decide, by decide, by decide, by decide, by decide, ?_⟩
  refine ⟨131, sr_law (post := fun r => r = 1) (kc := 1 + 14) (ks := 23 + 181) (xs := xs) hL rfl 130 0 (by omega) (by omega) 0 0 0 0 0 (-1) 0 0 0 0 0 0 (fun _ => 0) (fun _ => 0) (fun _ => 0) (fun _ => 0) (fun _ => 0) (fun _ => 0) (fun _ => 0) (fun _ => 0) (fun _ => 0) (fun _ => 0) (fun _ => 0) (fun _ => 0) (fun _ => 0) (fun _ => 0) ⟨by omega, by omega, rfl, rfl, rfl, fun r hr => absurd hr (by omega), fun z => absurd rfl z, fun k => Or.inl rfl, fun k => Or.inl rfl, fun k hk => absurd hk (by omega), fun r hr => absurd hr (by omega)⟩⟩
end
