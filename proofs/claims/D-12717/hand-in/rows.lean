section
/-! bits of an Int32 (the first rows turned from kit/laws/BITS.to-paste) -/
def bb_bt (x : Int32) (i : Nat) : Bool := x.toBitVec.getLsbD i
theorem bb_ext {x y : Int32} (h : ∀ i, i < 32 → bb_bt x i = bb_bt y i) : x = y := Int32.toBitVec_inj.mp (BitVec.eq_of_getLsbD_eq (fun i hi => h i hi))
theorem bb_or (x y : Int32) (i : Nat) : bb_bt (x ||| y) i = (bb_bt x i || bb_bt y i) := by unfold bb_bt; rw [Int32.toBitVec_or, BitVec.getLsbD_or]
theorem bb_and (x y : Int32) (i : Nat) : bb_bt (x &&& y) i = (bb_bt x i && bb_bt y i) := by unfold bb_bt; rw [Int32.toBitVec_and, BitVec.getLsbD_and]
theorem bb_xor (x y : Int32) (i : Nat) : bb_bt (x ^^^ y) i = (bb_bt x i ^^ bb_bt y i) := by unfold bb_bt; rw [Int32.toBitVec_xor, BitVec.getLsbD_xor]
theorem bb_big {x : Int32} {i : Nat} (h : 32 ≤ i) : bb_bt x i = false := BitVec.getLsbD_of_ge _ _ h
theorem bb_m1 : ∀ i, i < 32 → bb_bt (-1) i = true := by decide +kernel
theorem bb_0 (i : Nat) : bb_bt 0 i = false := BitVec.getLsbD_zero
theorem bb_sl : ∀ n, n < 32 → ((nI n &&& 31).toBitVec.smod 32).toNat = n := by decide +kernel
theorem bb_sshr (n : Nat) (hn : n < 32) (x : Int32) {i : Nat} (hi : i < 32) : bb_bt (x >>> (nI n &&& 31)) i = if n + i < 32 then bb_bt x (n + i) else bb_bt x 31 := by
  unfold bb_bt
  rw [Int32.toBitVec_shiftRight]
  show (x.toBitVec.sshiftRight ((nI n &&& 31).toBitVec.smod 32).toNat).getLsbD i = _
  rw [bb_sl n hn, BitVec.getLsbD_sshiftRight, BitVec.msb_eq_getLsbD_last]
  simp [hi]
theorem bb_one : ∀ i, i < 32 → bb_bt 1 i = decide (i = 0) := by decide +kernel
theorem bb_pow : ∀ n, n < 32 → ∀ i, i < 32 → bb_bt ((1 : Int32) <<< (nI n &&& 31)) i = decide (i = n) := by decide +kernel
/-- the bit that the code tests -/
theorem bb_tst (x : Int32) {k : Nat} (hk : k < 32) : ((x >>> (nI k &&& 31)) &&& 1) = 0 ↔ bb_bt x k = false := by
  constructor
  · intro h
    have e : bb_bt ((x >>> (nI k &&& 31)) &&& 1) 0 = false := by rw [h, bb_0]
    rw [bb_and, bb_sshr k hk x (by omega), bb_one 0 (by omega), if_pos (by omega)] at e
    simpa using e
  · intro h
    apply bb_ext
    intro i hi
    rw [bb_and, bb_sshr k hk x hi, bb_one i hi, bb_0]
    by_cases e : i = 0
    · rw [e, if_pos (by omega), Nat.add_zero, h]
      rfl
    · rw [decide_eq_false e, Bool.and_false]
theorem bb_nf {x : Bool} (h : ¬ x = false) : x = true := by cases x <;> simp_all
theorem bb_nt {x : Bool} (h : ¬ x = true) : x = false := by cases x <;> simp_all
theorem bb_xs (x : Int32) : x ^^^ x = 0 := by
  apply bb_ext
  intro i _
  rw [bb_xor, bb_0, Bool.xor_self]
theorem bb_xr (x y z : Int32) : (x ^^^ z) ^^^ y = (x ^^^ y) ^^^ z := by
  apply bb_ext
  intro i _
  rw [bb_xor, bb_xor, bb_xor, bb_xor]
  cases bb_bt x i <;> cases bb_bt y i <;> cases bb_bt z i <;> rfl
theorem bb_orN (a b : Nat) : nI a ||| nI b = nI (a ||| b) := by
  apply Int32.toBitVec_inj.1
  show BitVec.ofNat 32 a ||| BitVec.ofNat 32 b = BitVec.ofNat 32 (a ||| b)
  apply BitVec.eq_of_getLsbD_eq
  intro i hi
  simp [hi]

/-! the pure functions: what each loop has made after k turns -/
/-- times(f, c), the first k monomials taken -/
def bb_tm (f c : Int32) : Nat → Int32
  | 0 => 0
  | k + 1 => if bb_bt f k = true then bb_tm f c k ^^^ ((1 : Int32) <<< ((nI k ||| c) &&& 31)) else bb_tm f c k
/-- divisor(m) among the first k heads -/
def bb_dv (b : Nat → Int32) (m : Int32) : Nat → Option Nat
  | 0 => none
  | k + 1 => match bb_dv b m k with
    | some g => some g
    | none => if (b k &&& (m ^^^ (-1))) = 0 then some k else none
def bb_oi : Option Nat → Int32
  | none => -1
  | some g => nI g
/-- size, polys, heads -/
abbrev bb_S : Type := Nat × (Nat → Int32) × (Nat → Int32)
/-- one step of reduce, at the monomial m -/
def bb_st (s : bb_S) (m : Nat) (r : Int32) : Int32 :=
  if bb_bt r m = true then
    match bb_dv s.2.2 (nI m) s.1 with
    | none => r
    | some g => r ^^^ bb_tm (s.2.1 g) (nI m &&& (s.2.2 g ^^^ (-1))) 16
  else r
/-- the steps at k-1, .., 0 -/
def bb_rr (s : bb_S) : Nat → Int32 → Int32
  | 0, r => r
  | k + 1, r => bb_rr s k (bb_st s k r)
def bb_rd (s : bb_S) (f : Int32) : Int32 := bb_rr s 16 f
def bb_hd (f : Int32) : Nat → Int32
  | 0 => -1
  | k + 1 => if bb_bt f k = true then nI k else bb_hd f k
def bb_ap (s : bb_S) (r : Int32) : bb_S := (s.1 + 1, upd s.2.1 s.1 r, upd s.2.2 s.1 (bb_hd r 16).toInt8.toInt32)
def bb_tk (s : bb_S) (f : Int32) : bb_S :=
  if bb_rd s f = 0 then s else if s.1 < 32 then bb_ap s (bb_rd s f) else s
def bb_sq (s : bb_S) (i : Nat) : Nat → bb_S
  | 0 => s
  | v + 1 => if bb_bt ((bb_sq s i v).2.2 i) v = true then bb_tk (bb_sq s i v) (bb_tm ((bb_sq s i v).2.1 i) ((1 : Int32) <<< (nI v &&& 31)) 16 ^^^ (bb_sq s i v).2.1 i) else bb_sq s i v
def bb_df (s : bb_S) (i j : Nat) : bb_S :=
  bb_tk s (bb_tm (s.2.1 i) ((s.2.2 i ||| s.2.2 j) &&& (s.2.2 i ^^^ (-1))) 16 ^^^ bb_tm (s.2.1 j) ((s.2.2 i ||| s.2.2 j) &&& (s.2.2 j ^^^ (-1))) 16)
def bb_ds (s : bb_S) (i : Nat) : Nat → bb_S
  | 0 => s
  | j + 1 => bb_df (bb_ds s i j) i j
def bb_c4 (s : bb_S) : Nat → bb_S
  | 0 => s
  | k + 1 => if (bb_c4 s k).1 ≤ k then bb_c4 s k else bb_ds (bb_sq (bb_c4 s k) k 4) k k
def bb_c7 (p : Int32) (g : Nat → Int32) : Nat → bb_S
  | 0 => (0, (fun _ => 0), (fun _ => 0))
  | k + 1 => if bb_bt p k = true then bb_tk (bb_c7 p g k) (g k) else bb_c7 p g k
def bb_cp (p : Int32) (g : Nat → Int32) : bb_S := bb_c4 (bb_c7 p g 6) 32
def bb_va (f p : Int32) : Nat → Int32
  | 0 => 0
  | k + 1 => if (nI k &&& (p ^^^ (-1))) = 0 then bb_va f p k ^^^ ((f >>> (nI k &&& 31)) &&& 1) else bb_va f p k
def bb_vn (n : Nat) (a : Nat → Int32) (p : Int32) : Int32 := if ∀ i, i < n → bb_va (a i) p 16 = 0 then 1 else 0
def bb_le (m : Int32) (v : Nat) : Int32 := m &&& (((1 : Int32) <<< (nI v &&& 31)) ^^^ (-1))
noncomputable def bb_lb (s : bb_S) (m : Int32) : Int32 :=
  @ite Int32 (¬ bb_dv s.2.2 m s.1 = none ∧ ∀ v, v < 4 → bb_le m v = m ∨ bb_dv s.2.2 (bb_le m v) s.1 = none) (Classical.propDecidable _) 1 0
def bb_bd (s : bb_S) (m : Nat) : Int32 := match bb_dv s.2.2 (nI m) s.1 with
  | none => 0
  | some _ => (1 : Int32) <<< (nI m &&& 31)
/-- learn's first loop: basisCount, boundSet, basis -/
noncomputable def bb_l3 (s : bb_S) : Nat → Nat × Int32 × (Nat → Int32)
  | 0 => (0, 0, (fun _ => 0))
  | m + 1 => if bb_lb s (nI m) = 0 then ((bb_l3 s m).1, (bb_l3 s m).2.1 ||| bb_bd s m, (bb_l3 s m).2.2)
      else ((bb_l3 s m).1 + 1, (bb_l3 s m).2.1 ||| bb_bd s m, upd (bb_l3 s m).2.2 (bb_l3 s m).1 (((1 : Int32) <<< (nI m &&& 31)) ^^^ bb_rd s ((1 : Int32) <<< (nI m &&& 31))))
def bb_z (n : Nat) (a : Nat → Int32) : Nat → Int32
  | 0 => 0
  | k + 1 => if bb_vn n a (nI k) = 0 then bb_z n a k ||| 0 else bb_z n a k ||| ((1 : Int32) <<< (nI k &&& 31))

/-! small facts of the pure functions -/
theorem bb_dv_some {b : Nat → Int32} {m : Int32} {n g : Nat} (h : bb_dv b m n = some g) : g < n ∧ (b g &&& (m ^^^ (-1))) = 0 := by
  induction n with
  | zero => exact absurd h (by simp [bb_dv])
  | succ n ih =>
    unfold bb_dv at h
    split at h
    · rename_i g' e
      injection h with h
      subst h
      exact ⟨Nat.lt_succ_of_lt (ih e).1, (ih e).2⟩
    · split at h
      · rename_i c
        injection h with h
        subst h
        exact ⟨Nat.lt_succ_self _, c⟩
      · exact absurd h (by simp)
theorem bb_dv_s {b : Nat → Int32} {m : Int32} {n g : Nat} (h : bb_dv b m n = some g) : bb_dv b m (n + 1) = some g := by
  unfold bb_dv
  rw [h]
theorem bb_dv_mono {b : Nat → Int32} {m : Int32} {k g : Nat} (h : bb_dv b m k = some g) : ∀ n, k ≤ n → bb_dv b m n = some g := by
  intro n hn
  induction n with
  | zero =>
    have e : k = 0 := by omega
    rw [← e]
    exact h
  | succ n ih =>
    by_cases e : k = n + 1
    · rw [← e]
      exact h
    · exact bb_dv_s (ih (by omega))
theorem bb_dv_hit {b : Nat → Int32} {m : Int32} {n : Nat} (h : bb_dv b m n = none) (c : (b n &&& (m ^^^ (-1))) = 0) : bb_dv b m (n + 1) = some n := by
  unfold bb_dv
  rw [h]
  exact if_pos c
theorem bb_dv_miss {b : Nat → Int32} {m : Int32} {n : Nat} (h : bb_dv b m n = none) (c : ¬ (b n &&& (m ^^^ (-1))) = 0) : bb_dv b m (n + 1) = none := by
  unfold bb_dv
  rw [h]
  exact if_neg c
theorem bb_dv_congr {b b' : Nat → Int32} {m : Int32} {n : Nat} (h : ∀ i, i < n → b i = b' i) : bb_dv b m n = bb_dv b' m n := by
  induction n with
  | zero => rfl
  | succ n ih =>
    unfold bb_dv
    rw [ih (fun i hi => h i (by omega)), h n (by omega)]
theorem bb_tk_0 {s : bb_S} {f : Int32} (h : bb_rd s f = 0) : bb_tk s f = s := by
  unfold bb_tk
  rw [if_pos h]
theorem bb_tk_1 {s : bb_S} {f : Int32} (h : ¬ bb_rd s f = 0) (h2 : s.1 < 32) : bb_tk s f = bb_ap s (bb_rd s f) := by
  unfold bb_tk
  rw [if_neg h, if_pos h2]
theorem bb_tk_2 {s : bb_S} {f : Int32} (h : ¬ bb_rd s f = 0) (h2 : ¬ s.1 < 32) : bb_tk s f = s := by
  unfold bb_tk
  rw [if_neg h, if_neg h2]
/-- takeIn either leaves the state or appends -/
theorem bb_tk_c (s : bb_S) (f : Int32) : bb_tk s f = s ∨ (¬ bb_rd s f = 0 ∧ s.1 < 32 ∧ bb_tk s f = bb_ap s (bb_rd s f)) := by
  by_cases h : bb_rd s f = 0
  · exact Or.inl (bb_tk_0 h)
  · by_cases h2 : s.1 < 32
    · exact Or.inr ⟨h, h2, bb_tk_1 h h2⟩
    · exact Or.inl (bb_tk_2 h h2)
theorem bb_tk_le (s : bb_S) (f : Int32) : s.1 ≤ (bb_tk s f).1 := by
  rcases bb_tk_c s f with e | ⟨_, _, e⟩
  · rw [e]
    exact Nat.le_refl _
  · rw [e]
    exact Nat.le_succ _
theorem bb_sq_le (s : bb_S) (i v : Nat) : s.1 ≤ (bb_sq s i v).1 := by
  induction v with
  | zero => exact Nat.le_refl _
  | succ v ih =>
    unfold bb_sq
    split
    · exact Nat.le_trans ih (bb_tk_le _ _)
    · exact ih
theorem bb_ds_le (s : bb_S) (i j : Nat) : s.1 ≤ (bb_ds s i j).1 := by
  induction j with
  | zero => exact Nat.le_refl _
  | succ j ih => exact Nat.le_trans ih (bb_tk_le _ _)
theorem bb_c4_stay {s : bb_S} {k : Nat} (h : (bb_c4 s k).1 ≤ k) : ∀ n, k ≤ n → bb_c4 s n = bb_c4 s k := by
  intro n hn
  induction n with
  | zero =>
    have e : k = 0 := by omega
    rw [e]
  | succ n ih =>
    by_cases e : k = n + 1
    · rw [e]
    · have e2 := ih (by omega)
      have e3 : bb_c4 s (n + 1) = bb_c4 s n := if_pos (by rw [e2]; omega)
      rw [e3, e2]
theorem bb_c7_congr {p : Int32} {g g' : Nat → Int32} {n : Nat} (h : ∀ i, i < n → bb_bt p i = true → g i = g' i) : bb_c7 p g n = bb_c7 p g' n := by
  induction n with
  | zero => rfl
  | succ n ih =>
    unfold bb_c7
    rw [ih (fun i hi hb => h i (by omega) hb)]
    by_cases e : bb_bt p n = true
    · rw [if_pos e, if_pos e, h n (by omega) e]
    · rw [if_neg e, if_neg e]
theorem bb_cp_congr {p : Int32} {g g' : Nat → Int32} (h : ∀ i, i < 6 → bb_bt p i = true → g i = g' i) : bb_cp p g = bb_cp p g' := by
  unfold bb_cp
  rw [bb_c7_congr h]
theorem bb_l3_le (s : bb_S) (m : Nat) : (bb_l3 s m).1 ≤ m := by
  induction m with
  | zero => exact Nat.le_refl _
  | succ m ih =>
    unfold bb_l3
    split
    · exact Nat.le_succ_of_le ih
    · exact Nat.succ_le_succ ih
end
section
/-! the plain law: what is taken in reduces to nothing, and goes on doing so -/
theorem bb_tm_y {f c : Int32} {k : Nat} (h : bb_bt f k = true) : bb_tm f c (k + 1) = bb_tm f c k ^^^ ((1 : Int32) <<< ((nI k ||| c) &&& 31)) := if_pos h
theorem bb_tm_n {f c : Int32} {k : Nat} (h : ¬ bb_bt f k = true) : bb_tm f c (k + 1) = bb_tm f c k := if_neg h
theorem bb_or16 : ∀ k, k < 16 → ∀ d, d < 16 → (k ||| d) < 16 := by decide +kernel
theorem bb_lt16 : ∀ k, k < 16 → ∀ h, h < 16 → ∀ d, d < 16 → k < h → (d &&& h) = 0 → (k ||| d) < (h ||| d) := by decide +kernel
theorem bb_mono {k d : Nat} (hk : k < 16) (hd : d < 16) {j : Nat} (hj : j < 32) : bb_bt ((1 : Int32) <<< ((nI k ||| nI d) &&& 31)) j = decide (j = (k ||| d)) := by
  rw [bb_orN]
  exact bb_pow _ (Nat.lt_trans (bb_or16 k hk d hd) (by omega)) j hj
theorem bb_mono_n {k d j : Nat} (hk : k < 16) (hd : d < 16) (h : j ≠ (k ||| d)) : bb_bt ((1 : Int32) <<< ((nI k ||| nI d) &&& 31)) j = false := by
  rcases Nat.lt_or_ge j 32 with z | z
  · rw [bb_mono hk hd z, decide_eq_false h]
  · exact bb_big z
theorem bb_mono_y {k d : Nat} (hk : k < 16) (hd : d < 16) : bb_bt ((1 : Int32) <<< ((nI k ||| nI d) &&& 31)) (k ||| d) = true := by
  rw [bb_mono hk hd (Nat.lt_trans (bb_or16 k hk d hd) (by omega))]
  exact decide_eq_true rfl
theorem bb_tm16 (f : Int32) {d : Nat} (hd : d < 16) : ∀ k, k ≤ 16 → ∀ j, 16 ≤ j → bb_bt (bb_tm f (nI d) k) j = false := by
  intro k
  induction k with
  | zero =>
    intro _ j _
    exact bb_0 j
  | succ k ih =>
    intro hk j hj
    by_cases c : bb_bt f k = true
    · have w := bb_or16 k (by omega) d hd
      rw [bb_tm_y c, bb_xor, ih (by omega) j hj, bb_mono_n (by omega) hd (by omega)]
      rfl
    · rw [bb_tm_n c]
      exact ih (by omega) j hj
theorem bb_tmh {f : Int32} {h d : Nat} (hh : h < 16) (hd : d < 16) (hz : (d &&& h) = 0) (h1 : bb_bt f h = true) (h2 : ∀ j, h < j → bb_bt f j = false) :
    ∀ k, k ≤ 16 → (k ≤ h → ∀ j, (h ||| d) ≤ j → bb_bt (bb_tm f (nI d) k) j = false) ∧ (h < k → bb_bt (bb_tm f (nI d) k) (h ||| d) = true ∧ ∀ j, (h ||| d) < j → bb_bt (bb_tm f (nI d) k) j = false) := by
  intro k
  induction k with
  | zero =>
    intro _
    exact ⟨fun _ j _ => bb_0 j, fun z => absurd z (by omega)⟩
  | succ k ih =>
    intro hk
    obtain ⟨ia, ib⟩ := ih (by omega)
    refine ⟨fun z j hj => ?_, fun z => ?_⟩
    · have lt := bb_lt16 k (by omega) h hh d hd (by omega) hz
      by_cases c : bb_bt f k = true
      · rw [bb_tm_y c, bb_xor, ia (by omega) j hj, bb_mono_n (by omega) hd (by omega)]
        rfl
      · rw [bb_tm_n c]
        exact ia (by omega) j hj
    · by_cases e : k = h
      · have c : bb_bt f k = true := by
          rw [e]
          exact h1
        have ia' := ia (by omega)
        have g2 : (k ||| d) = (h ||| d) := by rw [e]
        rw [bb_tm_y c]
        constructor
        · rw [bb_xor, ia' _ (Nat.le_refl _), ← g2, bb_mono_y (by omega) hd]
          rfl
        · intro j hj
          rw [bb_xor, ia' j (by omega), bb_mono_n (by omega) hd (by omega)]
          rfl
      · have c : ¬ bb_bt f k = true := by
          rw [h2 k (by omega)]
          simp
        rw [bb_tm_n c]
        exact ib (by omega)
theorem bb_hm : ∀ h, h < 16 → ∀ m, m < 16 → (nI h &&& (nI m ^^^ (-1))) = 0 → (nI m &&& (nI h ^^^ (-1))) = nI (m - h) ∧ ((m - h) &&& h) = 0 ∧ (h ||| (m - h)) = m := by decide +kernel
theorem bb_self : ∀ h, h < 16 → (nI h &&& (nI h ^^^ (-1))) = nI 0 := by decide +kernel
theorem bb_nb : ∀ h, h < 16 → (nI h).toInt8.toInt32 = nI h := by decide +kernel
/-- b is the head of f, within the 16 monomials -/
def bb_H (f b : Int32) : Prop := ∃ h, h < 16 ∧ b = nI h ∧ bb_bt f h = true ∧ ∀ j, h < j → bb_bt f j = false
def bb_I (s : bb_S) : Prop := ∀ i, i < s.1 → bb_H (s.2.1 i) (s.2.2 i)
def bb_16 (f : Int32) : Prop := ∀ j, 16 ≤ j → bb_bt f j = false
theorem bb_q {s : bb_S} (hI : bb_I s) {m g : Nat} (hm : m < 16) (hd : bb_dv s.2.2 (nI m) s.1 = some g) :
    bb_bt (bb_tm (s.2.1 g) (nI m &&& (s.2.2 g ^^^ (-1))) 16) m = true ∧ ∀ j, m < j → bb_bt (bb_tm (s.2.1 g) (nI m &&& (s.2.2 g ^^^ (-1))) 16) j = false := by
  obtain ⟨hg, hz⟩ := bb_dv_some hd
  obtain ⟨h, hh, e, h1, h2⟩ := hI g hg
  rw [e] at hz ⊢
  obtain ⟨e1, e2, e3⟩ := bb_hm h hh m hm hz
  have t := (bb_tmh hh (show m - h < 16 by omega) e2 h1 h2 16 (Nat.le_refl _)).2 hh
  rw [e3] at t
  rw [e1]
  exact t
theorem bb_st_y {s : bb_S} {m g : Nat} {r : Int32} (c : bb_bt r m = true) (hd : bb_dv s.2.2 (nI m) s.1 = some g) : bb_st s m r = r ^^^ bb_tm (s.2.1 g) (nI m &&& (s.2.2 g ^^^ (-1))) 16 := by
  unfold bb_st
  rw [if_pos c, hd]
theorem bb_st_n {s : bb_S} {m : Nat} {r : Int32} (c : ¬ bb_bt r m = true) : bb_st s m r = r := by
  unfold bb_st
  rw [if_neg c]
theorem bb_st_0 {s : bb_S} {m : Nat} {r : Int32} (hd : bb_dv s.2.2 (nI m) s.1 = none) : bb_st s m r = r := by
  by_cases c : bb_bt r m = true
  · unfold bb_st
    rw [if_pos c, hd]
  · exact bb_st_n c
/-- the steps below k leave the bits from k on -/
theorem bb_R1 {s : bb_S} (hI : bb_I s) : ∀ k, k ≤ 16 → ∀ r j, k ≤ j → bb_bt (bb_rr s k r) j = bb_bt r j := by
  intro k
  induction k with
  | zero =>
    intro _ r j _
    rfl
  | succ k ih =>
    intro hk r j hj
    show bb_bt (bb_rr s k (bb_st s k r)) j = bb_bt r j
    rw [ih (by omega) _ j (by omega)]
    by_cases c : bb_bt r k = true
    · cases hd : bb_dv s.2.2 (nI k) s.1 with
      | none => rw [bb_st_0 hd]
      | some g => rw [bb_st_y c hd, bb_xor, (bb_q hI (by omega) hd).2 j (by omega), Bool.xor_false]
    · rw [bb_st_n c]
/-- what heads divide is gone -/
theorem bb_R2 {s : bb_S} (hI : bb_I s) : ∀ k, k ≤ 16 → ∀ r m g, m < k → bb_dv s.2.2 (nI m) s.1 = some g → bb_bt (bb_rr s k r) m = false := by
  intro k
  induction k with
  | zero =>
    intro _ r m g hm
    exact absurd hm (by omega)
  | succ k ih =>
    intro hk r m g hm hd
    show bb_bt (bb_rr s k (bb_st s k r)) m = false
    by_cases e : m < k
    · exact ih (by omega) _ m g e hd
    · have e' : m = k := by omega
      rw [e'] at hd ⊢
      rw [bb_R1 hI k (by omega) _ k (Nat.le_refl _)]
      by_cases c : bb_bt r k = true
      · rw [bb_st_y c hd, bb_xor, c, (bb_q hI (by omega) hd).1]
        rfl
      · rw [bb_st_n c]
        exact bb_nt c
theorem bb_up_lt {f : Nat → Int32} {k : Nat} {x : Int32} : ∀ i, i < k → upd f k x i = f i := fun i hi => pk_un (by omega)
theorem bb_ap_dv {s : bb_S} {r m : Int32} {g : Nat} (hd : bb_dv s.2.2 m s.1 = some g) : bb_dv (bb_ap s r).2.2 m (bb_ap s r).1 = some g := by
  show bb_dv (upd s.2.2 s.1 (bb_hd r 16).toInt8.toInt32) m (s.1 + 1) = some g
  apply bb_dv_s
  rw [bb_dv_congr bb_up_lt]
  exact hd
theorem bb_ap_dn {s : bb_S} {r m : Int32} (hd : bb_dv s.2.2 m s.1 = none) : bb_dv (bb_ap s r).2.2 m s.1 = none := by
  show bb_dv (upd s.2.2 s.1 (bb_hd r 16).toInt8.toInt32) m s.1 = none
  rw [bb_dv_congr bb_up_lt]
  exact hd
theorem bb_ap_1 {s : bb_S} {r : Int32} {g : Nat} (h : g < s.1) : (bb_ap s r).2.1 g = s.2.1 g := by
  show upd s.2.1 s.1 r g = s.2.1 g
  exact pk_un (by omega)
theorem bb_ap_2 {s : bb_S} {r : Int32} {g : Nat} (h : g < s.1) : (bb_ap s r).2.2 g = s.2.2 g := by
  show upd s.2.2 s.1 (bb_hd r 16).toInt8.toInt32 g = s.2.2 g
  exact pk_un (by omega)
theorem bb_st_ap {s : bb_S} {q x : Int32} {k g : Nat} (hd : bb_dv s.2.2 (nI k) s.1 = some g) : bb_st (bb_ap s q) k x = bb_st s k x := by
  have hg := (bb_dv_some hd).1
  by_cases c : bb_bt x k = true
  · rw [bb_st_y c hd, bb_st_y c (bb_ap_dv hd), bb_ap_1 hg, bb_ap_2 hg]
  · rw [bb_st_n c, bb_st_n c]
/-- what reduces to nothing does so with one more polynomial behind -/
theorem bb_A {s : bb_S} (hI : bb_I s) (q : Int32) : ∀ k, k ≤ 16 → ∀ r, bb_rr s k r = 0 → bb_rr (bb_ap s q) k r = 0 := by
  intro k
  induction k with
  | zero =>
    intro _ r h
    exact h
  | succ k ih =>
    intro hk r h
    have h' : bb_rr s k (bb_st s k r) = 0 := h
    show bb_rr (bb_ap s q) k (bb_st (bb_ap s q) k r) = 0
    have e : bb_st (bb_ap s q) k r = bb_st s k r := by
      by_cases c : bb_bt r k = true
      · cases hd : bb_dv s.2.2 (nI k) s.1 with
        | some g => exact bb_st_ap hd
        | none =>
          rw [bb_st_0 hd] at h'
          have w := bb_R1 hI k (by omega) r k (Nat.le_refl _)
          rw [h', bb_0, c] at w
          exact absurd w (by simp)
      · rw [bb_st_n c, bb_st_n c]
    rw [e]
    exact ih (by omega) _ h'
theorem bb_B2 {s : bb_S} (hI : bb_I s) {t : Int32} : ∀ k, k ≤ 16 → ∀ r, bb_rr s k r = t → bb_rr (bb_ap s t) k (r ^^^ t) = 0 := by
  intro k
  induction k with
  | zero =>
    intro _ r h
    have h' : r = t := h
    rw [h']
    exact bb_xs t
  | succ k ih =>
    intro hk r h
    have h' : bb_rr s k (bb_st s k r) = t := h
    show bb_rr (bb_ap s t) k (bb_st (bb_ap s t) k (r ^^^ t)) = 0
    have e : bb_st (bb_ap s t) k (r ^^^ t) = bb_st s k r ^^^ t := by
      cases hd : bb_dv s.2.2 (nI k) s.1 with
      | some g =>
        have w := bb_R2 hI (k + 1) hk r k g (by omega) hd
        rw [h] at w
        have c2 : bb_bt (r ^^^ t) k = bb_bt r k := by rw [bb_xor, w, Bool.xor_false]
        rw [bb_st_ap hd]
        by_cases c : bb_bt r k = true
        · rw [bb_st_y c hd, bb_st_y (c2.trans c) hd]
          exact bb_xr _ _ _
        · rw [bb_st_n c, bb_st_n (by rw [c2]; exact c)]
      | none =>
        rw [bb_st_0 hd] at h'
        have w := bb_R1 hI k (by omega) r k (Nat.le_refl _)
        rw [h'] at w
        have c2 : bb_bt (r ^^^ t) k = false := by rw [bb_xor, w, Bool.xor_self]
        rw [bb_st_0 hd, bb_st_n (by rw [c2]; simp)]
    rw [e]
    exact ih (by omega) _ h'
theorem bb_tm0 (f : Int32) : ∀ k, k ≤ 16 → ∀ j, bb_bt (bb_tm f (nI 0) k) j = (decide (j < k) && bb_bt f j) := by
  intro k
  induction k with
  | zero =>
    intro _ j
    rw [decide_eq_false (show ¬ j < 0 by omega), Bool.false_and]
    exact bb_0 j
  | succ k ih =>
    intro hk j
    have hd : j ≠ k → decide (j < k) = decide (j < k + 1) := by
      intro e
      rw [decide_eq_decide]
      omega
    by_cases c : bb_bt f k = true
    · rw [bb_tm_y c, bb_xor, ih (by omega) j]
      by_cases e : j = k
      · have w := bb_mono_y (k := k) (d := 0) (by omega) (by omega)
        rw [Nat.or_zero] at w
        rw [e, decide_eq_false (show ¬ k < k by omega), decide_eq_true (show k < k + 1 by omega), c, w]
        rfl
      · rw [bb_mono_n (by omega) (by omega) (by rw [Nat.or_zero]; exact e), Bool.xor_false, hd e]
    · rw [bb_tm_n c, ih (by omega) j]
      by_cases e : j = k
      · rw [e, bb_nt c, Bool.and_false, Bool.and_false]
      · rw [hd e]
theorem bb_tm0' {f : Int32} (h : bb_16 f) : bb_tm f (nI 0) 16 = f := by
  apply bb_ext
  intro j _
  rw [bb_tm0 f 16 (Nat.le_refl _) j]
  by_cases e : j < 16
  · rw [decide_eq_true e, Bool.true_and]
  · rw [h j (by omega), Bool.and_false]
theorem bb_B1 {s : bb_S} (hI : bb_I s) {t : Int32} {h : Nat} (hh : h < 16) (eh : (bb_hd t 16).toInt8.toInt32 = nI h) (h1 : bb_bt t h = true) (h2 : ∀ j, h < j → bb_bt t j = false) :
    ∀ k, k ≤ 16 → h < k → ∀ r, bb_rr s k r = t → bb_rr (bb_ap s t) k r = 0 := by
  intro k
  induction k with
  | zero =>
    intro _ z
    exact absurd z (by omega)
  | succ k ih =>
    intro hk z r hr
    have h' : bb_rr s k (bb_st s k r) = t := hr
    show bb_rr (bb_ap s t) k (bb_st (bb_ap s t) k r) = 0
    by_cases e : k = h
    · have hd : bb_dv s.2.2 (nI k) s.1 = none := by
        cases hd : bb_dv s.2.2 (nI k) s.1 with
        | none => rfl
        | some g =>
          have w := bb_R2 hI (k + 1) hk r k g (by omega) hd
          rw [hr, e, h1] at w
          exact absurd w (by simp)
      rw [bb_st_0 hd] at h'
      have c : bb_bt r k = true := by
        rw [← bb_R1 hI k (by omega) r k (Nat.le_refl _), h', e]
        exact h1
      have hz : bb_dv (bb_ap s t).2.2 (nI k) (bb_ap s t).1 = some s.1 := by
        refine bb_dv_hit (bb_ap_dn hd) ?_
        show (upd s.2.2 s.1 (bb_hd t 16).toInt8.toInt32 s.1 &&& (nI k ^^^ (-1))) = 0
        rw [pk_us, eh, e]
        exact bb_self h hh
      have q : bb_st (bb_ap s t) k r = r ^^^ t := by
        rw [bb_st_y c hz]
        show r ^^^ bb_tm (upd s.2.1 s.1 t s.1) (nI k &&& (upd s.2.2 s.1 (bb_hd t 16).toInt8.toInt32 s.1 ^^^ (-1))) 16 = r ^^^ t
        rw [pk_us, pk_us, eh, e, bb_self h hh, bb_tm0' (fun j hj => h2 j (by omega))]
      rw [q]
      exact bb_B2 hI k (by omega) r h'
    · have e2 : bb_st (bb_ap s t) k r = bb_st s k r := by
        by_cases c : bb_bt r k = true
        · cases hd : bb_dv s.2.2 (nI k) s.1 with
          | some g => exact bb_st_ap hd
          | none =>
            rw [bb_st_0 hd] at h'
            have w := bb_R1 hI k (by omega) r k (Nat.le_refl _)
            rw [h', h2 k (by omega), c] at w
            exact absurd w (by simp)
        · rw [bb_st_n c, bb_st_n c]
      rw [e2]
      exact ih (by omega) (by omega) _ h'
theorem bb_hd_c (f : Int32) : ∀ k, (bb_hd f k = -1 ∧ ∀ j, j < k → bb_bt f j = false) ∨ ∃ h, h < k ∧ bb_hd f k = nI h ∧ bb_bt f h = true ∧ ∀ j, h < j → j < k → bb_bt f j = false := by
  intro k
  induction k with
  | zero => exact Or.inl ⟨rfl, fun j hj => absurd hj (by omega)⟩
  | succ k ih =>
    by_cases c : bb_bt f k = true
    · exact Or.inr ⟨k, by omega, if_pos c, c, fun j h1 h2 => absurd h1 (by omega)⟩
    · have e : bb_hd f (k + 1) = bb_hd f k := if_neg c
      rw [e]
      rcases ih with ⟨i1, i2⟩ | ⟨h, i0, i1, i2, i3⟩
      · refine Or.inl ⟨i1, fun j hj => ?_⟩
        by_cases z : j = k
        · rw [z]
          exact bb_nt c
        · exact i2 j (by omega)
      · refine Or.inr ⟨h, by omega, i1, i2, fun j h1 h2 => ?_⟩
        by_cases z : j = k
        · rw [z]
          exact bb_nt c
        · exact i3 j h1 (by omega)
theorem bb_head {t : Int32} (h0 : ¬ t = 0) (h16 : bb_16 t) : ∃ h, h < 16 ∧ (bb_hd t 16).toInt8.toInt32 = nI h ∧ bb_bt t h = true ∧ ∀ j, h < j → bb_bt t j = false := by
  rcases bb_hd_c t 16 with ⟨_, i2⟩ | ⟨h, i0, i1, i2, i3⟩
  · refine absurd (?_ : t = 0) h0
    apply bb_ext
    intro j _
    rw [bb_0]
    by_cases z : j < 16
    · exact i2 j z
    · exact h16 j (by omega)
  · refine ⟨h, i0, ?_, i2, fun j hj => ?_⟩
    · rw [i1]
      exact bb_nb h i0
    · by_cases z : j < 16
      · exact i3 j hj z
      · exact h16 j (by omega)
theorem bb_rd16 {s : bb_S} (hI : bb_I s) {f : Int32} (h : bb_16 f) : bb_16 (bb_rd s f) := fun j hj => (bb_R1 hI 16 (Nat.le_refl _) f j hj).trans (h j hj)
/-- s' is sound, and what s reduces to nothing, s' does -/
def bb_P (s s' : bb_S) : Prop := bb_I s' ∧ ∀ f, bb_rd s f = 0 → bb_rd s' f = 0
theorem bb_P_tr {s t u : bb_S} (h : bb_P s t) (h' : bb_P t u) : bb_P s u := ⟨h'.1, fun f z => h'.2 f (h.2 f z)⟩
theorem bb_P_tk {s : bb_S} {f : Int32} (hI : bb_I s) (h : bb_16 f) : bb_P s (bb_tk s f) := by
  rcases bb_tk_c s f with e | ⟨e0, e1, e⟩
  · rw [e]
    exact ⟨hI, fun _ z => z⟩
  · rw [e]
    refine ⟨fun i hi => ?_, fun x hx => bb_A hI _ 16 (Nat.le_refl _) x hx⟩
    obtain ⟨hh, g0, g1, g2, g3⟩ := bb_head e0 (bb_rd16 hI h)
    by_cases z : i = s.1
    · rw [z]
      show bb_H (upd s.2.1 s.1 (bb_rd s f) s.1) (upd s.2.2 s.1 (bb_hd (bb_rd s f) 16).toInt8.toInt32 s.1)
      rw [pk_us, pk_us]
      exact ⟨hh, g0, g1, g2, g3⟩
    · have z' : i < s.1 := by
        have w : i < s.1 + 1 := hi
        omega
      rw [bb_ap_1 z', bb_ap_2 z']
      exact hI i z'
theorem bb_tk_in {s : bb_S} {f : Int32} (hI : bb_I s) (h : bb_16 f) (hn : s.1 < 32) : bb_rd (bb_tk s f) f = 0 := by
  by_cases e : bb_rd s f = 0
  · rw [bb_tk_0 e]
    exact e
  · rw [bb_tk_1 e hn]
    obtain ⟨hh, g0, g1, g2, g3⟩ := bb_head e (bb_rd16 hI h)
    exact bb_B1 hI g0 g1 g2 g3 16 (Nat.le_refl _) g0 f rfl
theorem bb_16x {a b : Int32} (ha : bb_16 a) (hb : bb_16 b) : bb_16 (a ^^^ b) := fun j hj => by
  rw [bb_xor, ha j hj, hb j hj]
  rfl
theorem bb_H16 {f b : Int32} (h : bb_H f b) : bb_16 f := by
  obtain ⟨h, h0, _, _, h3⟩ := h
  exact fun j hj => h3 j (by omega)
theorem bb_pv : ∀ v, v < 4 → (1 : Int32) <<< (nI v &&& 31) = nI (2 ^ v) ∧ 2 ^ v < 16 := by decide +kernel
theorem bb_dd : ∀ a, a < 16 → ∀ b, b < 16 → ((nI a ||| nI b) &&& (nI a ^^^ (-1))) = nI ((a ||| b) - a) ∧ (a ||| b) - a < 16 ∧ ((nI a ||| nI b) &&& (nI b ^^^ (-1))) = nI ((a ||| b) - b) ∧ (a ||| b) - b < 16 := by decide +kernel
theorem bb_P_sq {s : bb_S} {i : Nat} (hI : bb_I s) (hi : i < s.1) : ∀ v, v ≤ 4 → bb_P s (bb_sq s i v) := by
  intro v
  induction v with
  | zero =>
    intro _
    exact ⟨hI, fun _ z => z⟩
  | succ v ih =>
    intro hv
    have p := ih (by omega)
    by_cases c : bb_bt ((bb_sq s i v).2.2 i) v = true
    · have e : bb_sq s i (v + 1) = bb_tk (bb_sq s i v) (bb_tm ((bb_sq s i v).2.1 i) ((1 : Int32) <<< (nI v &&& 31)) 16 ^^^ (bb_sq s i v).2.1 i) := if_pos c
      rw [e]
      refine bb_P_tr p (bb_P_tk p.1 (bb_16x ?_ (bb_H16 (p.1 i (Nat.lt_of_lt_of_le hi (bb_sq_le s i v))))))
      rw [(bb_pv v (by omega)).1]
      exact fun j hj => bb_tm16 _ (bb_pv v (by omega)).2 16 (Nat.le_refl _) j hj
    · have e : bb_sq s i (v + 1) = bb_sq s i v := if_neg c
      rw [e]
      exact p
theorem bb_P_df {s : bb_S} {i j : Nat} (hI : bb_I s) (hi : i < s.1) (hj : j < s.1) : bb_P s (bb_df s i j) := by
  obtain ⟨a, a0, ea, _, _⟩ := hI i hi
  obtain ⟨b, b0, eb, _, _⟩ := hI j hj
  obtain ⟨d1, d2, d3, d4⟩ := bb_dd a a0 b b0
  refine bb_P_tk hI (bb_16x ?_ ?_)
  · rw [ea, eb, d1]
    exact fun j hj => bb_tm16 _ d2 16 (Nat.le_refl _) j hj
  · rw [ea, eb, d3]
    exact fun j hj => bb_tm16 _ d4 16 (Nat.le_refl _) j hj
theorem bb_P_ds {s : bb_S} {i : Nat} (hI : bb_I s) (hi : i < s.1) : ∀ j, j ≤ i → bb_P s (bb_ds s i j) := by
  intro j
  induction j with
  | zero =>
    intro _
    exact ⟨hI, fun _ z => z⟩
  | succ j ih =>
    intro hj
    have p := ih (by omega)
    have w := bb_ds_le s i j
    exact bb_P_tr p (bb_P_df p.1 (by omega) (by omega))
theorem bb_P_c4 {s : bb_S} (hI : bb_I s) : ∀ k, bb_P s (bb_c4 s k) := by
  intro k
  induction k with
  | zero => exact ⟨hI, fun _ z => z⟩
  | succ k ih =>
    by_cases c : (bb_c4 s k).1 ≤ k
    · have e : bb_c4 s (k + 1) = bb_c4 s k := if_pos c
      rw [e]
      exact ih
    · have e : bb_c4 s (k + 1) = bb_ds (bb_sq (bb_c4 s k) k 4) k k := if_neg c
      rw [e]
      have w := bb_sq_le (bb_c4 s k) k 4
      have p := bb_P_sq ih.1 (show k < (bb_c4 s k).1 by omega) 4 (Nat.le_refl _)
      exact bb_P_tr ih (bb_P_tr p (bb_P_ds p.1 (by omega) k (Nat.le_refl _)))
theorem bb_c7_in {p : Int32} {g : Nat → Int32} (hg : ∀ i, i < 6 → bb_bt p i = true → bb_16 (g i)) :
    ∀ k, k ≤ 6 → bb_I (bb_c7 p g k) ∧ (bb_c7 p g k).1 ≤ k ∧ ∀ i, i < k → bb_bt p i = true → bb_rd (bb_c7 p g k) (g i) = 0 := by
  intro k
  induction k with
  | zero =>
    intro _
    exact ⟨fun i hi => absurd hi (Nat.not_lt_zero i), Nat.le_refl _, fun i hi => absurd hi (by omega)⟩
  | succ k ih =>
    intro hk
    obtain ⟨i1, i2, i3⟩ := ih (by omega)
    by_cases c : bb_bt p k = true
    · have e : bb_c7 p g (k + 1) = bb_tk (bb_c7 p g k) (g k) := if_pos c
      rw [e]
      have w := bb_P_tk i1 (hg k (by omega) c)
      refine ⟨w.1, ?_, fun i hi hb => ?_⟩
      · rcases bb_tk_c (bb_c7 p g k) (g k) with e | ⟨_, _, e⟩
        · rw [e]
          omega
        · rw [e]
          exact Nat.succ_le_succ i2
      · by_cases z : i = k
        · rw [z]
          exact bb_tk_in i1 (hg k (by omega) c) (by omega)
        · exact w.2 _ (i3 i (by omega) hb)
    · have e : bb_c7 p g (k + 1) = bb_c7 p g k := if_neg c
      rw [e]
      refine ⟨i1, by omega, fun i hi hb => ?_⟩
      by_cases z : i = k
      · rw [z] at hb
        exact absurd hb c
      · exact i3 i (by omega) hb
/-- every generator is reduced to nothing by what complete has taken in -/
theorem bb_in {p : Int32} {g : Nat → Int32} (hg : ∀ i, i < 6 → bb_bt p i = true → bb_16 (g i)) {i : Nat} (hi : i < 6) (hb : bb_bt p i = true) : bb_rd (bb_cp p g) (g i) = 0 := by
  obtain ⟨i1, i2, i3⟩ := bb_c7_in hg 6 (Nat.le_refl _)
  exact (bb_P_c4 i1 32).2 _ (i3 i hi hb)
end
section
/-! the walks: one lemma a method, the answer as a hypothesis -/
section
variable {f1 f2 f3 f4 f5 f6 : Int32} {a1 a2 a3 a4 : Nat → Int32}
theorem bb_bf {x : Bool} (h : x = false) : ¬ x = true := by
  rw [h]
  simp
theorem bb_w_times {post : Int32 → Prop} {f c : Int32} (h : post (bb_tm f c 16)) : wpX_times post () f c :=
  pk_loop (fun n i s => wX_times_4 post f c n s (nI i)) (fun i s => s = bb_tm f c i) 16 0 0 (by omega) rfl
    (fun n s (e : s = bb_tm f c 16) => pk_le 16 16 (fun _ => by rw [e]; exact h) (fun z => absurd z (by omega)))
    (fun n i s hi (e : s = bb_tm f c i) hw => pk_le 16 i (fun z => absurd z (by omega)) (fun _ =>
      ek_if (bb_tst f (by omega))
        (fun z => nm_r (nI_1 i) (hw _ (e.trans (bb_tm_n (bb_bf z)).symm)))
        (fun z => nm_e (nm_r (nI_1 i) (hw _ ((congrArg (fun y => y ^^^ ((1 : Int32) <<< ((nI i ||| c) &&& 31))) e).trans (bb_tm_y (bb_nf z)).symm))))))
theorem bb_hd_y {f : Int32} {k : Nat} (h : bb_bt f k = true) : bb_hd f (k + 1) = nI k := if_pos h
theorem bb_hd_n {f : Int32} {k : Nat} (h : ¬ bb_bt f k = true) : bb_hd f (k + 1) = bb_hd f k := if_neg h
theorem bb_w_head {post : Int32 → Prop} {f : Int32} (h : post (bb_hd f 16)) : wpX_headOf post () f :=
  pk_loop (fun n i s => wX_headOf_4 post f n s (nI i)) (fun i s => s = bb_hd f i) 16 0 (-1) (by omega) rfl
    (fun n s (e : s = bb_hd f 16) => pk_le 16 16 (fun _ => by rw [e]; exact h) (fun z => absurd z (by omega)))
    (fun n i s hi (e : s = bb_hd f i) hw => pk_le 16 i (fun z => absurd z (by omega)) (fun _ =>
      ek_if (bb_tst f (by omega))
        (fun z => nm_r (nI_1 i) (hw _ (e.trans (bb_hd_n (bb_bf z)).symm)))
        (fun z => nm_r (nI_1 i) (hw _ (bb_hd_y (bb_nf z)).symm))))
theorem bb_w_div {post : Int32 → Prop} {b : Nat → Int32} {n : Nat} {m : Int32} (hn : n ≤ 32) (hb : ∀ i, i < n → a3 i = b i) (h : post (bb_oi (bb_dv b m n))) : wpX_divisor post (f1, f2, nI n, f4, f5, f6, a1, a2, a3, a4) m := by
  refine pk_loop (σ := Unit) (fun k i _ => wX_divisor_2 post m f1 f2 (nI n) f4 f5 f6 a1 a2 a3 a4 k (nI i)) (fun i _ => bb_dv b m i = none) n 0 () (by omega) rfl ?_ ?_
  · intro k _ e
    have e : bb_dv b m n = none := e
    rw [e] at h
    exact pk_le n n (fun _ => h) (fun z => absurd z (by omega))
  · intro k i _ hi e hw
    have e : bb_dv b m i = none := e
    refine pk_le n i (fun z => absurd z (by omega)) (fun _ => ⟨pk_in i 32 (by omega), ?_⟩)
    rw [nI_clamp (show i < 2 ^ 31 by omega), hb i hi]
    refine br_c (fun c => ?_) (fun c => nm_r (nI_1 i) (hw () (bb_dv_miss e c)))
    rw [bb_dv_mono (bb_dv_hit e c) n (by omega)] at h
    exact h
/-- the arrays hold the picture -/
def bb_M (s : bb_S) (a2 a3 : Nat → Int32) : Prop := s.1 ≤ 32 ∧ ∀ i, i < s.1 → a2 i = s.2.1 i ∧ a3 i = s.2.2 i
theorem bb_w_red {post : Int32 → Prop} {s : bb_S} (hs : bb_M s a2 a3) {f : Int32} (h : post (bb_rd s f)) : wpX_reduce post (f1, f2, nI s.1, f4, f5, f6, a1, a2, a3, a4) f := by
  have h32 : s.1 ≤ 32 := hs.1
  have w : ∀ e x, (e ≤ 16 ∧ bb_rr s e x = bb_rd s f) → wX_reduce_5 post f1 f2 (nI s.1) f4 f5 f6 a1 a2 a3 a4 (e + 1) x (nI e + (-1)) := by
    refine pk_loopD (fun n i x => wX_reduce_5 post f1 f2 (nI s.1) f4 f5 f6 a1 a2 a3 a4 n x (nI i + (-1))) (fun i x => i ≤ 16 ∧ bb_rr s i x = bb_rd s f) ?_ ?_
    · intro n x e
      have e : x = bb_rd s f := e.2
      rw [← e] at h
      exact br_t (by decide) h
    · intro n i x e hw
      have hi : i < 16 := e.1
      have e : bb_rr s i (bb_st s i x) = bb_rd s f := e.2
      have hw : ∀ y, bb_rr s i y = bb_rd s f → wX_reduce_5 post f1 f2 (nI s.1) f4 f5 f6 a1 a2 a3 a4 n y (nI i + (-1)) := fun y hy => hw y ⟨by omega, hy⟩
      show wX_reduce_5 post f1 f2 (nI s.1) f4 f5 f6 a1 a2 a3 a4 (n + 1) x (nI (i + 1) + (-1))
      rw [pk_m1]
      refine br_f (nI_pos (by omega)) (ek_if (bb_tst x (by omega)) (fun z => ?_) (fun z => ?_))
      · rw [bb_st_n (bb_bf z)] at e
        exact br_t (by decide) (nm_e (hw x e))
      · refine bb_w_div (b := s.2.2) h32 (fun j hj => (hs.2 j hj).2) ?_
        cases hd : bb_dv s.2.2 (nI i) s.1 with
        | none =>
          rw [bb_st_0 hd] at e
          exact br_t (by decide) (nm_e (hw x e))
        | some g =>
          have hg := (bb_dv_some hd).1
          rw [bb_st_y (bb_nf z) hd] at e
          show wX_reduce_26 post (wX_reduce_5 post f1 f2 (nI s.1) f4 f5 f6 a1 a2 a3 a4 n) x (nI i) (nI g) f1 f2 (nI s.1) f4 f5 f6 a1 a2 a3 a4
          unfold wX_reduce_26
          rw [nI_clamp (show g < 2 ^ 31 by omega), (hs.2 g hg).1, (hs.2 g hg).2]
          exact br_f (nI_pos (by omega)) ⟨pk_in g 32 (by omega), pk_in g 32 (by omega), bb_w_times (nm_e (nm_e (hw _ e)))⟩
  have w16 := w 16 f ⟨Nat.le_refl _, rfl⟩
  rw [show nI 16 + (-1) = 15 by decide] at w16
  exact ⟨17, w16⟩
theorem bb_M_ap {s : bb_S} {r : Int32} (hs : bb_M s a2 a3) (hn : s.1 < 32) : bb_M (bb_ap s r) (upd a2 s.1 r) (upd a3 s.1 (bb_hd r 16).toInt8.toInt32) := by
  refine ⟨hn, fun i hi => ?_⟩
  have hi : i < s.1 + 1 := hi
  show upd a2 s.1 r i = upd s.2.1 s.1 r i ∧ upd a3 s.1 (bb_hd r 16).toInt8.toInt32 i = upd s.2.2 s.1 (bb_hd r 16).toInt8.toInt32 i
  by_cases z : i = s.1
  · rw [z, pk_us, pk_us, pk_us, pk_us]
    exact ⟨rfl, rfl⟩
  · rw [pk_un z, pk_un z, pk_un z, pk_un z]
    exact hs.2 i (by omega)
theorem bb_w_takeIn {post : Int32 → St1 → Prop} {s : bb_S} (hs : bb_M s a2 a3) {f : Int32} (h : ∀ r b2 b3, bb_M (bb_tk s f) b2 b3 → post r (f1, f2, nI (bb_tk s f).1, f4, f5, f6, a1, b2, b3, a4)) :
    wpX_takeIn post (f1, f2, nI s.1, f4, f5, f6, a1, a2, a3, a4) f := by
  have h32 : s.1 ≤ 32 := hs.1
  unfold wpX_takeIn
  refine bb_w_red hs ?_
  by_cases e : bb_rd s f = 0
  · refine br_t e ?_
    rw [bb_tk_0 e] at h
    exact h 0 a2 a3 hs
  · refine br_f e ?_
    by_cases hn : s.1 < 32
    · rw [bb_tk_1 e hn] at h
      refine br_t (nI_lt (b := 32) hn (by decide)) ⟨pk_in s.1 32 hn, fun b2 e2 => bb_w_head ⟨pk_in s.1 32 hn, fun b3 e3 => nm_r (nI_1 s.1) (h 1 b2 b3 ?_)⟩⟩
      rw [nI_clamp (show s.1 < 2 ^ 31 by omega)] at e2 e3
      rw [e2, e3]
      exact bb_M_ap hs hn
    · rw [bb_tk_2 e hn] at h
      exact br_f (nI_nlt (b := 32) (by omega) (by omega)) (h 0 a2 a3 hs)
theorem bb_w_sq {post : St1 → Prop} {s : bb_S} (hs : bb_M s a2 a3) {i : Nat} (hi : i < s.1) (h : ∀ b2 b3, bb_M (bb_sq s i 4) b2 b3 → post (f1, f2, nI (bb_sq s i 4).1, f4, f5, f6, a1, b2, b3, a4)) :
    wpX_takeSquares post (f1, f2, nI s.1, f4, f5, f6, a1, a2, a3, a4) (nI i) := by
  have h32 : s.1 ≤ 32 := hs.1
  refine pk_loop (σ := (Nat → Int32) × (Nat → Int32)) (fun n v x => wX_takeSquares_2 post (nI i) n (nI v) f1 f2 (nI (bb_sq s i v).1) f4 f5 f6 a1 x.1 x.2 a4) (fun v x => bb_M (bb_sq s i v) x.1 x.2) 4 0 (a2, a3) (by omega) hs ?_ ?_
  · rintro n ⟨b2, b3⟩ m
    exact pk_le 4 4 (fun _ => h b2 b3 m) (fun z => absurd z (by omega))
  · rintro n v ⟨b2, b3⟩ hv m hw
    have m : bb_M (bb_sq s i v) b2 b3 := m
    have hi' : i < (bb_sq s i v).1 := Nat.lt_of_lt_of_le hi (bb_sq_le s i v)
    have hw : ∀ c2 c3, bb_M (bb_sq s i (v + 1)) c2 c3 → wX_takeSquares_2 post (nI i) n (nI (v + 1)) f1 f2 (nI (bb_sq s i (v + 1)).1) f4 f5 f6 a1 c2 c3 a4 := fun c2 c3 mc => hw (c2, c3) mc
    show wX_takeSquares_2 post (nI i) (n + 1) (nI v) f1 f2 (nI (bb_sq s i v).1) f4 f5 f6 a1 b2 b3 a4
    refine pk_le 4 v (fun z => absurd z (by omega)) (fun _ => ⟨pk_in i 32 (by omega), ?_⟩)
    rw [nI_clamp (show i < 2 ^ 31 by omega), (m.2 i hi').1, (m.2 i hi').2]
    refine ek_if (bb_tst _ (by omega)) (fun z => ?_) (fun z => ?_)
    · have e : bb_sq s i (v + 1) = bb_sq s i v := if_neg (bb_bf z)
      rw [e] at hw
      exact nm_r (nI_1 v) (hw b2 b3 m)
    · have e : bb_sq s i (v + 1) = bb_tk (bb_sq s i v) (bb_tm ((bb_sq s i v).2.1 i) ((1 : Int32) <<< (nI v &&& 31)) 16 ^^^ (bb_sq s i v).2.1 i) := if_pos (bb_nf z)
      rw [e] at hw
      exact ⟨pk_in i 32 (by omega), bb_w_times ⟨pk_in i 32 (by omega), bb_w_takeIn m (fun r c2 c3 mc => nm_r (nI_1 v) (hw c2 c3 mc))⟩⟩
theorem bb_w_df {post : St1 → Prop} {s : bb_S} (hs : bb_M s a2 a3) {i j : Nat} (hi : i < s.1) (hj : j < s.1) (h : ∀ b2 b3, bb_M (bb_df s i j) b2 b3 → post (f1, f2, nI (bb_df s i j).1, f4, f5, f6, a1, b2, b3, a4)) :
    wpX_takeDifference post (f1, f2, nI s.1, f4, f5, f6, a1, a2, a3, a4) (nI i) (nI j) := by
  have h32 : s.1 ≤ 32 := hs.1
  unfold wpX_takeDifference
  dsimp only
  rw [nI_clamp (show i < 2 ^ 31 by omega), nI_clamp (show j < 2 ^ 31 by omega), (hs.2 i hi).1, (hs.2 i hi).2, (hs.2 j hj).1, (hs.2 j hj).2]
  exact ⟨pk_in i 32 (by omega), pk_in j 32 (by omega), nm_e ⟨pk_in i 32 (by omega), pk_in i 32 (by omega), bb_w_times ⟨pk_in j 32 (by omega), pk_in j 32 (by omega), bb_w_times (bb_w_takeIn hs (fun r b2 b3 m => h b2 b3 m))⟩⟩⟩
theorem bb_w_55 {post : St1 → Prop} {J : Int32 → Int32 → Int32 → Int32 → Int32 → Int32 → Int32 → (Nat → Int32) → (Nat → Int32) → (Nat → Int32) → (Nat → Int32) → Prop} {s : bb_S} (hs : bb_M s a2 a3) {i : Nat} (hi : i < s.1)
    (h : ∀ b2 b3, bb_M (bb_ds s i i) b2 b3 → J (nI (i + 1)) f1 f2 (nI (bb_ds s i i).1) f4 f5 f6 a1 b2 b3 a4) :
    ∃ n, wX_complete_55 post J (nI i) n 0 f1 f2 (nI s.1) f4 f5 f6 a1 a2 a3 a4 := by
  have h32 : s.1 ≤ 32 := hs.1
  refine pk_loop (σ := (Nat → Int32) × (Nat → Int32)) (fun n j x => wX_complete_55 post J (nI i) n (nI j) f1 f2 (nI (bb_ds s i j).1) f4 f5 f6 a1 x.1 x.2 a4) (fun j x => bb_M (bb_ds s i j) x.1 x.2) i 0 (a2, a3) (by omega) hs ?_ ?_
  · rintro n ⟨b2, b3⟩ m
    exact pk_le i i (fun _ => nm_r (nI_1 i) (h b2 b3 m)) (fun z => absurd z (by omega))
  · rintro n j ⟨b2, b3⟩ hj m hw
    have m : bb_M (bb_ds s i j) b2 b3 := m
    have w := bb_ds_le s i j
    exact pk_le i j (fun z => absurd z (by omega)) (fun _ => bb_w_df m (by omega) (by omega) (fun c2 c3 mc => nm_r (nI_1 j) (hw (c2, c3) mc)))
theorem bb_w_40 {post : St1 → Prop} {s : bb_S} (hs : bb_M s a2 a3) (h : ∀ b2 b3, bb_M (bb_c4 s 32) b2 b3 → post (f1, f2, nI (bb_c4 s 32).1, f4, f5, f6, a1, b2, b3, a4)) :
    ∃ n, wX_complete_40 post n 0 f1 f2 (nI s.1) f4 f5 f6 a1 a2 a3 a4 := by
  refine pk_loop (σ := (Nat → Int32) × (Nat → Int32)) (fun n k x => wX_complete_40 post n (nI k) f1 f2 (nI (bb_c4 s k).1) f4 f5 f6 a1 x.1 x.2 a4) (fun k x => bb_M (bb_c4 s k) x.1 x.2) 32 0 (a2, a3) (by omega) hs ?_ ?_
  · rintro n ⟨b2, b3⟩ m
    have h32 : (bb_c4 s 32).1 ≤ 32 := m.1
    exact pk_le (bb_c4 s 32).1 32 (fun _ => h b2 b3 m) (fun z => absurd z (by omega))
  · rintro n k ⟨b2, b3⟩ hk m hw
    have m : bb_M (bb_c4 s k) b2 b3 := m
    have h32 : (bb_c4 s k).1 ≤ 32 := m.1
    refine pk_le (bb_c4 s k).1 k (fun z => ?_) (fun z => ?_)
    · rw [bb_c4_stay z 32 (by omega)] at h
      exact h b2 b3 m
    · have e : bb_c4 s (k + 1) = bb_ds (bb_sq (bb_c4 s k) k 4) k k := if_neg (by omega)
      have hw : ∀ c2 c3, bb_M (bb_c4 s (k + 1)) c2 c3 → wX_complete_40 post n (nI (k + 1)) f1 f2 (nI (bb_c4 s (k + 1)).1) f4 f5 f6 a1 c2 c3 a4 := fun c2 c3 mc => hw (c2, c3) mc
      rw [e] at hw
      exact bb_w_sq m z (fun c2 c3 mc => bb_w_55 mc (Nat.lt_of_lt_of_le z (bb_sq_le _ k 4)) hw)
theorem bb_w_comp {post : St1 → Prop} {p : Int32} (h : ∀ b2 b3, bb_M (bb_cp p a1) b2 b3 → post (f1, f2, nI (bb_cp p a1).1, f4, f5, f6, a1, b2, b3, a4)) :
    wpX_complete post (f1, f2, f3, f4, f5, f6, a1, a2, a3, a4) p := by
  refine pk_loop (σ := (Nat → Int32) × (Nat → Int32)) (fun n k x => wX_complete_7 post p n (nI k) f1 f2 (nI (bb_c7 p a1 k).1) f4 f5 f6 a1 x.1 x.2 a4) (fun k x => bb_M (bb_c7 p a1 k) x.1 x.2) 6 0 (a2, a3) (by omega) ⟨Nat.zero_le 32, fun i hi => absurd hi (Nat.not_lt_zero i)⟩ ?_ ?_
  · rintro n ⟨b2, b3⟩ m
    exact pk_le 6 6 (fun _ => bb_w_40 m h) (fun z => absurd z (by omega))
  · rintro n k ⟨b2, b3⟩ hk m hw
    have m : bb_M (bb_c7 p a1 k) b2 b3 := m
    have hw : ∀ c2 c3, bb_M (bb_c7 p a1 (k + 1)) c2 c3 → wX_complete_7 post p n (nI (k + 1)) f1 f2 (nI (bb_c7 p a1 (k + 1)).1) f4 f5 f6 a1 c2 c3 a4 := fun c2 c3 mc => hw (c2, c3) mc
    refine pk_le 6 k (fun z => absurd z (by omega)) (fun _ => ek_if (bb_tst p (by omega)) (fun z => ?_) (fun z => ⟨pk_in k 6 hk, ?_⟩))
    · have e : bb_c7 p a1 (k + 1) = bb_c7 p a1 k := if_neg (bb_bf z)
      rw [e] at hw
      exact nm_r (nI_1 k) (hw b2 b3 m)
    · have e : bb_c7 p a1 (k + 1) = bb_tk (bb_c7 p a1 k) (a1 k) := if_pos (bb_nf z)
      rw [e] at hw
      rw [nI_clamp (show k < 2 ^ 31 by omega)]
      exact bb_w_takeIn m (fun r c2 c3 mc => nm_r (nI_1 k) (hw c2 c3 mc))
end
end
section
/-! learn -/
section
variable {f1 f2 f3 f4 f5 f6 : Int32} {a1 a2 a3 a4 : Nat → Int32}
theorem bb_va_y {f p : Int32} {k : Nat} (h : (nI k &&& (p ^^^ (-1))) = 0) : bb_va f p (k + 1) = bb_va f p k ^^^ ((f >>> (nI k &&& 31)) &&& 1) := if_pos h
theorem bb_va_n {f p : Int32} {k : Nat} (h : ¬ (nI k &&& (p ^^^ (-1))) = 0) : bb_va f p (k + 1) = bb_va f p k := if_neg h
theorem bb_w_va {post : Int32 → Prop} {f p : Int32} (h : post (bb_va f p 16)) : wpX_valueAt post () f p :=
  pk_loop (fun n i s => wX_valueAt_4 post f p n s (nI i)) (fun i s => s = bb_va f p i) 16 0 0 (by omega) rfl
    (fun n s (e : s = bb_va f p 16) => pk_le 16 16 (fun _ => by rw [e]; exact h) (fun z => absurd z (by omega)))
    (fun n i s hi (e : s = bb_va f p i) hw => pk_le 16 i (fun z => absurd z (by omega)) (fun _ =>
      br_c (fun z => nm_e (nm_r (nI_1 i) (hw _ ((congrArg (fun y => y ^^^ ((f >>> (nI i &&& 31)) &&& 1)) e).trans (bb_va_y z).symm))))
        (fun z => nm_r (nI_1 i) (hw _ (e.trans (bb_va_n z).symm)))))
theorem bb_w_vn {post : Int32 → Prop} {n : Nat} {a : Nat → Int32} {p : Int32} (hn : n ≤ 16) (ha : ∀ i, i < n → a4 i = a i) (h : post (bb_vn n a p)) : wpX_vanishes post (f1, f2, f3, nI n, f5, f6, a1, a2, a3, a4) p := by
  refine pk_loop (σ := Unit) (fun k i _ => wX_vanishes_2 post p f1 f2 f3 (nI n) f5 f6 a1 a2 a3 a4 k (nI i)) (fun i _ => ∀ j, j < i → bb_va (a j) p 16 = 0) n 0 () (by omega) (fun j hj => absurd hj (by omega)) ?_ ?_
  · intro k _ e
    have e : ∀ j, j < n → bb_va (a j) p 16 = 0 := e
    have w : bb_vn n a p = 1 := if_pos e
    rw [w] at h
    exact pk_le n n (fun _ => h) (fun z => absurd z (by omega))
  · intro k i _ hi e hw
    have e : ∀ j, j < i → bb_va (a j) p 16 = 0 := e
    refine pk_le n i (fun z => absurd z (by omega)) (fun _ => ⟨pk_in i 16 (by omega), ?_⟩)
    rw [nI_clamp (show i < 2 ^ 31 by omega), ha i hi]
    refine bb_w_va (br_c (fun z => nm_r (nI_1 i) (hw () (lt_s e z))) (fun z => ?_))
    have w : bb_vn n a p = 0 := if_neg (fun t => z (t i hi))
    rw [w] at h
    exact h
theorem bb_w_lb {post : Int32 → Prop} {s : bb_S} (hs : bb_M s a2 a3) {m : Int32} (h : post (bb_lb s m)) : wpX_leastBound post (f1, f2, nI s.1, f4, f5, f6, a1, a2, a3, a4) m := by
  have h32 : s.1 ≤ 32 := hs.1
  unfold wpX_leastBound
  refine bb_w_div (b := s.2.2) h32 (fun j hj => (hs.2 j hj).2) ?_
  cases hd : bb_dv s.2.2 m s.1 with
  | none =>
    have w : bb_lb s m = 0 := if_neg (fun t => t.1 hd)
    rw [w] at h
    exact br_f (by decide) h
  | some g =>
    have hg := (bb_dv_some hd).1
    have hn : ¬ bb_dv s.2.2 m s.1 = none := by
      rw [hd]
      simp
    refine br_t (nI_pos' (by omega)) ?_
    refine pk_loop (σ := Unit) (fun k i _ => wX_leastBound_12 post m f1 f2 (nI s.1) f4 f5 f6 a1 a2 a3 a4 k (nI i)) (fun i _ => ∀ v, v < i → bb_le m v = m ∨ bb_dv s.2.2 (bb_le m v) s.1 = none) 4 0 () (by omega) (fun v hv => absurd hv (by omega)) ?_ ?_
    · intro k _ e
      have e : ∀ v', v' < 4 → bb_le m v' = m ∨ bb_dv s.2.2 (bb_le m v') s.1 = none := e
      have w : bb_lb s m = 1 := if_pos ⟨hn, e⟩
      rw [w] at h
      exact pk_le 4 4 (fun _ => h) (fun z => absurd z (by omega))
    · intro k v _ hv e hw
      have e : ∀ v', v' < v → bb_le m v' = m ∨ bb_dv s.2.2 (bb_le m v') s.1 = none := e
      refine pk_le 4 v (fun z => absurd z (by omega)) (fun _ => nm_r (e' := bb_le m v) rfl ?_)
      refine br_c (fun c => nm_r (nI_1 v) (hw () (lt_s e (Or.inl c)))) (fun c => ?_)
      refine bb_w_div (b := s.2.2) h32 (fun j hj => (hs.2 j hj).2) ?_
      cases hd2 : bb_dv s.2.2 (bb_le m v) s.1 with
      | none => exact br_t (by decide) (nm_r (nI_1 v) (hw () (lt_s e (Or.inr hd2))))
      | some g2 =>
        have hg2 := (bb_dv_some hd2).1
        have w : bb_lb s m = 0 := if_neg (fun t => (t.2 v hv).elim c (fun y => by rw [hd2] at y; exact absurd y (by simp)))
        rw [w] at h
        exact br_f (nI_pos (by omega)) h
theorem bb_w_33 {post : St1 → Prop} {s : bb_S} (hs : bb_M s a2 a3)
    (h : ∀ b4, (∀ i, i < (bb_l3 s 16).1 → b4 i = (bb_l3 s 16).2.2 i) → ∃ n, wX_learn_114 post f1 f2 (nI s.1) (nI (bb_l3 s 16).1) (bb_l3 s 16).2.1 a1 a2 a3 b4 n 0 0) :
    ∃ n, wX_learn_33 post f1 f2 (nI s.1) f6 n 0 0 0 a1 a2 a3 a4 := by
  have h32 : s.1 ≤ 32 := hs.1
  refine pk_loop (σ := Nat → Int32) (fun n m x => wX_learn_33 post f1 f2 (nI s.1) f6 n (nI m) (nI (bb_l3 s m).1) (bb_l3 s m).2.1 a1 a2 a3 x) (fun m x => ∀ i, i < (bb_l3 s m).1 → x i = (bb_l3 s m).2.2 i) 16 0 a4 (by omega) (fun i hi => absurd hi (Nat.not_lt_zero i)) ?_ ?_
  · intro n x e
    exact pk_le 16 16 (fun _ => h x e) (fun z => absurd z (by omega))
  · intro n m x hm e hw
    have e : ∀ i, i < (bb_l3 s m).1 → x i = (bb_l3 s m).2.2 i := e
    have hw : ∀ y, (∀ i, i < (bb_l3 s (m + 1)).1 → y i = (bb_l3 s (m + 1)).2.2 i) → wX_learn_33 post f1 f2 (nI s.1) f6 n (nI (m + 1)) (nI (bb_l3 s (m + 1)).1) (bb_l3 s (m + 1)).2.1 a1 a2 a3 y := hw
    have le := bb_l3_le s m
    have key : wX_learn_59 post (wX_learn_33 post f1 f2 (nI s.1) f6 n) (nI m) (bb_bd s m) (bb_l3 s m).2.1 f1 f2 (nI s.1) (nI (bb_l3 s m).1) (bb_l3 s m).2.1 f6 a1 a2 a3 x := by
      unfold wX_learn_59
      refine nm_e (bb_w_lb hs ?_)
      by_cases z : bb_lb s (nI m) = 0
      · have e3 : bb_l3 s (m + 1) = ((bb_l3 s m).1, (bb_l3 s m).2.1 ||| bb_bd s m, (bb_l3 s m).2.2) := if_pos z
        rw [e3] at hw
        exact br_t z (nm_r (nI_1 m) (hw x e))
      · have e3 : bb_l3 s (m + 1) = ((bb_l3 s m).1 + 1, (bb_l3 s m).2.1 ||| bb_bd s m, upd (bb_l3 s m).2.2 (bb_l3 s m).1 (((1 : Int32) <<< (nI m &&& 31)) ^^^ bb_rd s ((1 : Int32) <<< (nI m &&& 31)))) := if_neg z
        rw [e3] at hw
        refine br_f z (bb_w_red hs ⟨pk_in (bb_l3 s m).1 16 (by omega), fun y ey => nm_r (nI_1 _) (nm_r (nI_1 m) (hw y ?_))⟩)
        rw [nI_clamp (show (bb_l3 s m).1 < 2 ^ 31 by omega)] at ey
        intro i hi
        have hi : i < (bb_l3 s m).1 + 1 := hi
        show y i = upd (bb_l3 s m).2.2 (bb_l3 s m).1 (((1 : Int32) <<< (nI m &&& 31)) ^^^ bb_rd s ((1 : Int32) <<< (nI m &&& 31))) i
        rw [ey]
        by_cases q : i = (bb_l3 s m).1
        · rw [q, pk_us, pk_us]
        · rw [pk_un q, pk_un q]
          exact e i (by omega)
    refine pk_le 16 m (fun z => absurd z (by omega)) (fun _ => bb_w_div (b := s.2.2) h32 (fun j hj => (hs.2 j hj).2) ?_)
    cases hd : bb_dv s.2.2 (nI m) s.1 with
    | none =>
      have eb : bb_bd s m = 0 := by
        unfold bb_bd
        rw [hd]
      rw [eb] at key
      exact br_t (by decide) key
    | some g =>
      have hg := (bb_dv_some hd).1
      have eb : bb_bd s m = (1 : Int32) <<< (nI m &&& 31) := by
        unfold bb_bd
        rw [hd]
      rw [eb] at key
      exact br_f (nI_pos (by omega)) key
theorem bb_z_y {n : Nat} {a : Nat → Int32} {k : Nat} (h : bb_vn n a (nI k) = 0) : bb_z n a (k + 1) = bb_z n a k ||| 0 := if_pos h
theorem bb_z_n {n : Nat} {a : Nat → Int32} {k : Nat} (h : ¬ bb_vn n a (nI k) = 0) : bb_z n a (k + 1) = bb_z n a k ||| ((1 : Int32) <<< (nI k &&& 31)) := if_neg h
theorem bb_w_114 {post : St1 → Prop} {n : Nat} {a : Nat → Int32} (hn : n ≤ 16) (ha : ∀ i, i < n → a4 i = a i) (h : post (f1, f2, f3, nI n, f5, bb_z n a 16, a1, a2, a3, a4)) :
    ∃ k, wX_learn_114 post f1 f2 f3 (nI n) f5 a1 a2 a3 a4 k 0 0 :=
  pk_loop (fun k i z => wX_learn_114 post f1 f2 f3 (nI n) f5 a1 a2 a3 a4 k (nI i) z) (fun i z => z = bb_z n a i) 16 0 0 (by omega) rfl
    (fun k z (e : z = bb_z n a 16) => pk_le 16 16 (fun _ => by rw [e]; exact h) (fun z => absurd z (by omega)))
    (fun k i z hi (e : z = bb_z n a i) hw => pk_le 16 i (fun z => absurd z (by omega)) (fun _ =>
      bb_w_vn hn ha (br_c
        (fun c => nm_e (nm_r (nI_1 i) (hw _ ((congrArg (fun y => y ||| 0) e).trans (bb_z_y c).symm))))
        (fun c => nm_e (nm_r (nI_1 i) (hw _ ((congrArg (fun y => y ||| ((1 : Int32) <<< (nI i &&& 31))) e).trans (bb_z_n c).symm)))))))
/-- the caches are those of s -/
def bb_K (s : bb_S) (f3 f4 f5 f6 : Int32) (a2 a3 a4 : Nat → Int32) : Prop :=
  f3 = nI s.1 ∧ bb_M s a2 a3 ∧ f4 = nI (bb_l3 s 16).1 ∧ f5 = (bb_l3 s 16).2.1 ∧ f6 = bb_z (bb_l3 s 16).1 (bb_l3 s 16).2.2 16 ∧ ∀ i, i < (bb_l3 s 16).1 → a4 i = (bb_l3 s 16).2.2 i
def bb_G (p : Int32) (g a : Nat → Int32) : Prop := ∀ i, i < 6 → bb_bt p i = true → a i = g i
/-- an object that holds the picture (p, g) -/
def bb_ok (p : Int32) (g : Nat → Int32) (u : St1) : Prop := match u with
  | (f1, f2, f3, f4, f5, f6, a1, a2, a3, a4) => f1 = p ∧ bb_G p g a1 ∧ (¬ f2 = 0 → bb_K (bb_cp p g) f3 f4 f5 f6 a2 a3 a4)
theorem bb_okL {p : Int32} {g : Nat → Int32} (hG : bb_G p g a1) (m : bb_M (bb_cp p g) a2 a3) (e4 : ∀ i, i < (bb_l3 (bb_cp p g) 16).1 → a4 i = (bb_l3 (bb_cp p g) 16).2.2 i) :
    bb_ok p g (p, f2, nI (bb_cp p g).1, nI (bb_l3 (bb_cp p g) 16).1, (bb_l3 (bb_cp p g) 16).2.1, bb_z (bb_l3 (bb_cp p g) 16).1 (bb_l3 (bb_cp p g) 16).2.2 16, a1, a2, a3, a4) :=
  ⟨rfl, hG, fun _ => ⟨rfl, m, rfl, rfl, rfl, e4⟩⟩
theorem bb_w_learn {post : St1 → Prop} {p : Int32} {g : Nat → Int32} (hu : bb_ok p g (f1, f2, f3, f4, f5, f6, a1, a2, a3, a4))
    (h : ∀ k b1 b2 b3 b4, bb_G p g b1 → bb_M (bb_cp p g) b2 b3 → (∀ i, i < (bb_l3 (bb_cp p g) 16).1 → b4 i = (bb_l3 (bb_cp p g) 16).2.2 i) →
      post (p, k, nI (bb_cp p g).1, nI (bb_l3 (bb_cp p g) 16).1, (bb_l3 (bb_cp p g) 16).2.1, bb_z (bb_l3 (bb_cp p g) 16).1 (bb_l3 (bb_cp p g) 16).2.2 16, b1, b2, b3, b4)) :
    wpX_learn post (f1, f2, f3, f4, f5, f6, a1, a2, a3, a4) := by
  obtain ⟨e1, hG, hK⟩ := hu
  unfold wpX_learn
  refine br_c (fun c => ?_) (fun c => ?_)
  · rw [e1]
    refine bb_w_comp (fun b2 b3 m => ?_)
    rw [bb_cp_congr hG] at m ⊢
    exact bb_w_33 m (fun b4 e4 => bb_w_114 (bb_l3_le _ 16) e4 (h 1 a1 b2 b3 b4 hG m e4))
  · obtain ⟨k1, m, k2, k3, k4, e4⟩ := hK c
    rw [e1, k1, k2, k3, k4]
    exact h f2 a1 a2 a3 a4 hG m e4
end
end
section
/-! the answers: any object that holds (p, g) answers the same, and holds (p, g) after -/
section
variable {f1 f2 f3 f4 f5 f6 : Int32} {a1 a2 a3 a4 : Nat → Int32}
def bb_D (p : Int32) (g : Nat → Int32) (wp : (Int32 → St1 → Prop) → St1 → Prop) : Prop :=
  ∃ F : Int32, ∀ u, bb_ok p g u → ∀ post : Int32 → St1 → Prop, (∀ u', bb_ok p g u' → post F u') → wp post u
theorem bb_q_basisAt (p : Int32) (g : Nat → Int32) (x : Int32) : bb_D p g (fun post u => wpX_basisAt post u x) := by
  by_cases c : x < 0
  · refine ⟨-1, fun u hu post h => ?_⟩
    obtain ⟨f1, f2, f3, f4, f5, f6, a1, a2, a3, a4⟩ := u
    show wpX_basisAt post (f1, f2, f3, f4, f5, f6, a1, a2, a3, a4) x
    unfold wpX_basisAt
    exact bb_w_learn hu (fun k b1 b2 b3 b4 hG m e4 => br_t c (h _ (bb_okL hG m e4)))
  · by_cases c2 : x < nI (bb_l3 (bb_cp p g) 16).1
    · refine ⟨(bb_l3 (bb_cp p g) 16).2.2 x.toNatClampNeg, fun u hu post h => ?_⟩
      obtain ⟨f1, f2, f3, f4, f5, f6, a1, a2, a3, a4⟩ := u
      show wpX_basisAt post (f1, f2, f3, f4, f5, f6, a1, a2, a3, a4) x
      unfold wpX_basisAt
      refine bb_w_learn hu (fun k b1 b2 b3 b4 hG m e4 => br_f c (br_t c2 ⟨?_, ?_⟩))
      · have le := bb_l3_le (bb_cp p g) 16
        obtain ⟨j, hj, ej⟩ := nI_of c
        rw [ej] at c2 ⊢
        exact pk_in j 16 (Nat.lt_of_lt_of_le ((nI_ltI hj (by omega)).mp c2) le)
      · have le := bb_l3_le (bb_cp p g) 16
        obtain ⟨j, hj, ej⟩ := nI_of c
        rw [ej] at c2 h ⊢
        have hj' := (nI_ltI hj (by omega)).mp c2
        rw [nI_clamp hj] at h ⊢
        rw [e4 j hj']
        exact h _ (bb_okL hG m e4)
    · refine ⟨-1, fun u hu post h => ?_⟩
      obtain ⟨f1, f2, f3, f4, f5, f6, a1, a2, a3, a4⟩ := u
      show wpX_basisAt post (f1, f2, f3, f4, f5, f6, a1, a2, a3, a4) x
      unfold wpX_basisAt
      exact bb_w_learn hu (fun k b1 b2 b3 b4 hG m e4 => br_f c (br_f c2 (h _ (bb_okL hG m e4))))
/-- x is a polynomial -/
def bb_pl (x : Int32) : Prop := ¬ x < 0 ∧ ¬ 65535 < x
theorem bb_w_isP {post : Int32 → Prop} {x : Int32} (h0 : ¬ bb_pl x → post 0) (h1 : bb_pl x → post 1) : wpX_isPolynomial post () x :=
  br_c (fun c => h0 (fun t => t.1 c)) (fun c => br_c (fun c2 => h0 (fun t => t.2 c2)) (fun c2 => h1 ⟨c, c2⟩))
theorem bb_q_rest (p : Int32) (g : Nat → Int32) (x : Int32) : bb_D p g (fun post u => wpX_rest post u x) := by
  by_cases c : bb_pl x
  · refine ⟨bb_rd (bb_cp p g) x, fun u hu post h => ?_⟩
    obtain ⟨f1, f2, f3, f4, f5, f6, a1, a2, a3, a4⟩ := u
    show wpX_rest post (f1, f2, f3, f4, f5, f6, a1, a2, a3, a4) x
    unfold wpX_rest
    exact bb_w_isP (fun n => absurd c n) (fun _ => br_f (by decide) (bb_w_learn hu (fun k b1 b2 b3 b4 hG m e4 => bb_w_red m (h _ (bb_okL hG m e4)))))
  · refine ⟨-1, fun u hu post h => ?_⟩
    obtain ⟨f1, f2, f3, f4, f5, f6, a1, a2, a3, a4⟩ := u
    show wpX_rest post (f1, f2, f3, f4, f5, f6, a1, a2, a3, a4) x
    unfold wpX_rest
    exact bb_w_isP (fun _ => br_t rfl (h _ hu)) (fun n => absurd n c)
/-- contains, of a polynomial -/
theorem bb_w_cont {post : Int32 → St1 → Prop} {p : Int32} {g : Nat → Int32} {x : Int32} (c : bb_pl x) (hu : bb_ok p g (f1, f2, f3, f4, f5, f6, a1, a2, a3, a4))
    (h1 : bb_rd (bb_cp p g) x = 0 → ∀ u', bb_ok p g u' → post 1 u') (h0 : ¬ bb_rd (bb_cp p g) x = 0 → ∀ u', bb_ok p g u' → post 0 u') : wpX_contains post (f1, f2, f3, f4, f5, f6, a1, a2, a3, a4) x := by
  unfold wpX_contains
  exact bb_w_isP (fun n => absurd c n) (fun _ => br_f (by decide) (bb_w_learn hu (fun k b1 b2 b3 b4 hG m e4 => bb_w_red m (br_c (fun z => h1 z _ (bb_okL hG m e4)) (fun z => h0 z _ (bb_okL hG m e4))))))
theorem bb_q_contains (p : Int32) (g : Nat → Int32) (x : Int32) : bb_D p g (fun post u => wpX_contains post u x) := by
  by_cases c : bb_pl x
  · by_cases z : bb_rd (bb_cp p g) x = 0
    · refine ⟨1, fun u hu post h => ?_⟩
      obtain ⟨f1, f2, f3, f4, f5, f6, a1, a2, a3, a4⟩ := u
      exact bb_w_cont c hu (fun _ => h) (fun n => absurd z n)
    · refine ⟨0, fun u hu post h => ?_⟩
      obtain ⟨f1, f2, f3, f4, f5, f6, a1, a2, a3, a4⟩ := u
      exact bb_w_cont c hu (fun n => absurd n z) (fun _ => h)
  · refine ⟨0, fun u hu post h => ?_⟩
    obtain ⟨f1, f2, f3, f4, f5, f6, a1, a2, a3, a4⟩ := u
    show wpX_contains post (f1, f2, f3, f4, f5, f6, a1, a2, a3, a4) x
    unfold wpX_contains
    exact bb_w_isP (fun _ => br_t rfl (h _ hu)) (fun n => absurd n c)
theorem bb_q_zeros (p : Int32) (g : Nat → Int32) : bb_D p g (fun post u => wpX_zeros post u) := by
  refine ⟨bb_z (bb_l3 (bb_cp p g) 16).1 (bb_l3 (bb_cp p g) 16).2.2 16, fun u hu post h => ?_⟩
  obtain ⟨f1, f2, f3, f4, f5, f6, a1, a2, a3, a4⟩ := u
  show wpX_zeros post (f1, f2, f3, f4, f5, f6, a1, a2, a3, a4)
  unfold wpX_zeros
  exact bb_w_learn hu (fun k b1 b2 b3 b4 hG m e4 => h _ (bb_okL hG m e4))
theorem bb_q_bound (p : Int32) (g : Nat → Int32) : bb_D p g (fun post u => wpX_bound post u) := by
  refine ⟨(bb_l3 (bb_cp p g) 16).2.1, fun u hu post h => ?_⟩
  obtain ⟨f1, f2, f3, f4, f5, f6, a1, a2, a3, a4⟩ := u
  show wpX_bound post (f1, f2, f3, f4, f5, f6, a1, a2, a3, a4)
  unfold wpX_bound
  exact bb_w_learn hu (fun k b1 b2 b3 b4 hG m e4 => h _ (bb_okL hG m e4))
theorem bb_q_basisSize (p : Int32) (g : Nat → Int32) : bb_D p g (fun post u => wpX_basisSize post u) := by
  refine ⟨nI (bb_l3 (bb_cp p g) 16).1, fun u hu post h => ?_⟩
  obtain ⟨f1, f2, f3, f4, f5, f6, a1, a2, a3, a4⟩ := u
  show wpX_basisSize post (f1, f2, f3, f4, f5, f6, a1, a2, a3, a4)
  unfold wpX_basisSize
  exact bb_w_learn hu (fun k b1 b2 b3 b4 hG m e4 => h _ (bb_okL hG m e4))
/-! relates -/
def bb_se (z x : Int32) : Nat → Int32
  | 0 => 0
  | k + 1 => if bb_bt z k = true then bb_se z x k ||| ((1 : Int32) <<< ((nI k &&& x) &&& 31)) else bb_se z x k
theorem bb_se_y {z x : Int32} {k : Nat} (h : bb_bt z k = true) : bb_se z x (k + 1) = bb_se z x k ||| ((1 : Int32) <<< ((nI k &&& x) &&& 31)) := if_pos h
theorem bb_se_n {z x : Int32} {k : Nat} (h : ¬ bb_bt z k = true) : bb_se z x (k + 1) = bb_se z x k := if_neg h
noncomputable def bb_re (sn x : Int32) : Int32 := @ite Int32 (∀ q, q < 16 → (nI q &&& (x ^^^ (-1))) = 0 → bb_bt sn q = true) (Classical.propDecidable _) 0 1
theorem bb_w_53 {post : Int32 → St1 → Prop} {x sn : Int32} (h : post (bb_re sn x) (f1, f2, f3, f4, f5, f6, a1, a2, a3, a4)) :
    ∃ n, wX_relates_53 post x sn f1 f2 f3 f4 f5 f6 a1 a2 a3 a4 n 0 := by
  refine pk_loop (σ := Unit) (fun n i _ => wX_relates_53 post x sn f1 f2 f3 f4 f5 f6 a1 a2 a3 a4 n (nI i)) (fun i _ => ∀ q, q < i → (nI q &&& (x ^^^ (-1))) = 0 → bb_bt sn q = true) 16 0 () (by omega) (fun q hq => absurd hq (by omega)) ?_ ?_
  · intro n _ e
    have e : ∀ q, q < 16 → (nI q &&& (x ^^^ (-1))) = 0 → bb_bt sn q = true := e
    have w : bb_re sn x = 0 := if_pos e
    rw [w] at h
    exact pk_le 16 16 (fun _ => h) (fun z => absurd z (by omega))
  · intro n i _ hi e hw
    have e : ∀ q, q < i → (nI q &&& (x ^^^ (-1))) = 0 → bb_bt sn q = true := e
    refine pk_le 16 i (fun z => absurd z (by omega)) (fun _ => br_c (fun c => ek_if (bb_tst sn (by omega)) (fun z => ?_) (fun z => nm_r (nI_1 i) (hw () (lt_s e (fun _ => bb_nf z))))) (fun c => nm_r (nI_1 i) (hw () (lt_s e (fun t => absurd t c)))))
    have w : bb_re sn x = 1 := if_neg (fun t => absurd (t i hi c) (bb_bf z))
    rw [w] at h
    exact h
theorem bb_w_20 {post : Int32 → St1 → Prop} {x : Int32} (h : post (bb_re (bb_se f6 x 16) x) (f1, f2, f3, f4, f5, f6, a1, a2, a3, a4)) :
    ∃ n, wX_relates_20 post x f1 f2 f3 f4 f5 f6 a1 a2 a3 a4 n 0 0 :=
  pk_loop (fun n i s => wX_relates_20 post x f1 f2 f3 f4 f5 f6 a1 a2 a3 a4 n s (nI i)) (fun i s => s = bb_se f6 x i) 16 0 0 (by omega) rfl
    (fun n s (e : s = bb_se f6 x 16) => pk_le 16 16 (fun _ => by rw [e]; exact bb_w_53 h) (fun z => absurd z (by omega)))
    (fun n i s hi (e : s = bb_se f6 x i) hw => pk_le 16 i (fun z => absurd z (by omega)) (fun _ =>
      ek_if (bb_tst f6 (by omega))
        (fun z => nm_r (nI_1 i) (hw _ (e.trans (bb_se_n (bb_bf z)).symm)))
        (fun z => nm_e (nm_r (nI_1 i) (hw _ ((congrArg (fun y => y ||| ((1 : Int32) <<< ((nI i &&& x) &&& 31))) e).trans (bb_se_y (bb_nf z)).symm))))))
theorem bb_q_relates (p : Int32) (g : Nat → Int32) (x : Int32) : bb_D p g (fun post u => wpX_relates post u x) := by
  by_cases c : x < 0
  · refine ⟨0, fun u hu post h => ?_⟩
    obtain ⟨f1, f2, f3, f4, f5, f6, a1, a2, a3, a4⟩ := u
    exact br_t c (h _ hu)
  · by_cases c2 : x < 16
    · refine ⟨bb_re (bb_se (bb_z (bb_l3 (bb_cp p g) 16).1 (bb_l3 (bb_cp p g) 16).2.2 16) x 16) x, fun u hu post h => ?_⟩
      obtain ⟨f1, f2, f3, f4, f5, f6, a1, a2, a3, a4⟩ := u
      exact br_f c (br_t c2 (bb_w_learn hu (fun k b1 b2 b3 b4 hG m e4 => bb_w_20 (h _ (bb_okL hG m e4)))))
    · refine ⟨0, fun u hu post h => ?_⟩
      obtain ⟨f1, f2, f3, f4, f5, f6, a1, a2, a3, a4⟩ := u
      exact br_f c (br_f c2 (h _ hu))
/-! values -/
def bb_vs (z x : Int32) : Nat → Int32
  | 0 => 0
  | k + 1 => if bb_bt z k = true then bb_vs z x k ||| ((1 : Int32) <<< (((nI k >>> (x &&& 31)) &&& 1) &&& 31)) else bb_vs z x k
theorem bb_vs_y {z x : Int32} {k : Nat} (h : bb_bt z k = true) : bb_vs z x (k + 1) = bb_vs z x k ||| ((1 : Int32) <<< (((nI k >>> (x &&& 31)) &&& 1) &&& 31)) := if_pos h
theorem bb_vs_n {z x : Int32} {k : Nat} (h : ¬ bb_bt z k = true) : bb_vs z x (k + 1) = bb_vs z x k := if_neg h
theorem bb_w_19 {post : Int32 → St1 → Prop} {x : Int32} (h : post (bb_vs f6 x 16) (f1, f2, f3, f4, f5, f6, a1, a2, a3, a4)) :
    ∃ n, wX_values_19 post x f1 f2 f3 f4 f5 f6 a1 a2 a3 a4 n 0 0 :=
  pk_loop (fun n i s => wX_values_19 post x f1 f2 f3 f4 f5 f6 a1 a2 a3 a4 n s (nI i)) (fun i s => s = bb_vs f6 x i) 16 0 0 (by omega) rfl
    (fun n s (e : s = bb_vs f6 x 16) => pk_le 16 16 (fun _ => by rw [e]; exact h) (fun z => absurd z (by omega)))
    (fun n i s hi (e : s = bb_vs f6 x i) hw => pk_le 16 i (fun z => absurd z (by omega)) (fun _ =>
      ek_if (bb_tst f6 (by omega))
        (fun z => nm_r (nI_1 i) (hw _ (e.trans (bb_vs_n (bb_bf z)).symm)))
        (fun z => nm_e (nm_r (nI_1 i) (hw _ ((congrArg (fun y => y ||| ((1 : Int32) <<< (((nI i >>> (x &&& 31)) &&& 1) &&& 31))) e).trans (bb_vs_y (bb_nf z)).symm))))))
theorem bb_q_values (p : Int32) (g : Nat → Int32) (x : Int32) : bb_D p g (fun post u => wpX_values post u x) := by
  by_cases c : x < 0
  · refine ⟨0, fun u hu post h => ?_⟩
    obtain ⟨f1, f2, f3, f4, f5, f6, a1, a2, a3, a4⟩ := u
    exact br_t c (h _ hu)
  · by_cases c2 : x ≤ 3
    · refine ⟨bb_vs (bb_z (bb_l3 (bb_cp p g) 16).1 (bb_l3 (bb_cp p g) 16).2.2 16) x 16, fun u hu post h => ?_⟩
      obtain ⟨f1, f2, f3, f4, f5, f6, a1, a2, a3, a4⟩ := u
      exact br_f c (br_t c2 (bb_w_learn hu (fun k b1 b2 b3 b4 hG m e4 => bb_w_19 (h _ (bb_okL hG m e4)))))
    · refine ⟨0, fun u hu post h => ?_⟩
      obtain ⟨f1, f2, f3, f4, f5, f6, a1, a2, a3, a4⟩ := u
      exact br_f c (br_f c2 (h _ hu))
/-! has, redundant -/
theorem bb_w_has {post : Int32 → Prop} {x : Int32} (h1 : ∀ i, i < 6 → x = nI i → bb_bt f1 i = true → post 1) (h0 : (∀ i, i < 6 → x = nI i → bb_bt f1 i = false) → post 0) :
    wpX_has post (f1, f2, f3, f4, f5, f6, a1, a2, a3, a4) x := by
  unfold wpX_has
  refine br_c (fun c => h0 (fun i hi e => absurd c (by rw [e]; exact nI_pos (by omega)))) (fun c => br_c (fun c6 => h0 (fun i hi e => absurd c6 (by rw [e]; exact nI_ge (b := 6) hi (by decide)))) (fun c6 => ?_))
  obtain ⟨j, hj, ej⟩ := nI_of c
  have hj6 : j < 6 := by
    rcases Nat.lt_or_ge j 6 with z | z
    · exact z
    · exact absurd (show (6 : Int32) ≤ x by rw [ej]; exact nI_le (a := 6) z hj) c6
  rw [ej]
  refine ek_if (bb_tst f1 (by omega)) (fun z => h0 (fun i hi e => ?_)) (fun z => h1 j hj6 ej (bb_nf z))
  rw [ej] at e
  have e' : j = i := (nI_eq hj (by omega)).mp e
  rw [← e']
  exact z
/-- p without the bit i -/
def bb_cl (p : Int32) (i : Nat) : Int32 := p &&& (((1 : Int32) <<< (nI i &&& 31)) ^^^ (-1))
def bb_sb (p : Int32) (i : Nat) : Int32 := p ||| ((1 : Int32) <<< (nI i &&& 31))
theorem bb_cl_b (p : Int32) {i : Nat} (hi : i < 32) {k : Nat} (hk : k < 32) : bb_bt (bb_cl p i) k = (bb_bt p k && !decide (k = i)) := by
  unfold bb_cl
  rw [bb_and, bb_xor, bb_pow i hi k hk, bb_m1 k hk, Bool.xor_true]
theorem bb_sb_b (p : Int32) {i : Nat} (hi : i < 32) {k : Nat} (hk : k < 32) : bb_bt (bb_sb p i) k = (bb_bt p k || decide (k = i)) := by
  unfold bb_sb
  rw [bb_or, bb_pow i hi k hk]
theorem bb_cl_s {p : Int32} {i k : Nat} (hi : i < 32) (hk : k < 32) (h : bb_bt (bb_cl p i) k = true) : bb_bt p k = true := by
  rw [bb_cl_b p hi hk] at h
  rw [Bool.and_eq_true] at h
  exact h.1
theorem bb_q_redundant (p : Int32) (g : Nat → Int32) (x : Int32) : bb_D p g (fun post u => wpX_redundant post u x) := by
  by_cases c : ∃ i, i < 6 ∧ x = nI i ∧ bb_bt p i = true
  · obtain ⟨i, hi, ex, hb⟩ := c
    have main : ∀ u, bb_ok p g u → ∀ post : Int32 → St1 → Prop, (bb_rd (bb_cp (bb_cl p i) g) (g i) = 0 → ∀ u', bb_ok p g u' → post 1 u') → (¬ bb_rd (bb_cp (bb_cl p i) g) (g i) = 0 → ∀ u', bb_ok p g u' → post 0 u') → wpX_redundant post u x := by
      intro u hu post h1 h0
      obtain ⟨f1, f2, f3, f4, f5, f6, a1, a2, a3, a4⟩ := u
      obtain ⟨e1, hG, hK⟩ := hu
      have hG : bb_G p g a1 := hG
      rw [e1, ex]
      unfold wpX_redundant
      refine bb_w_has (fun j hj ej hbj => br_f (by decide) (bb_w_comp (fun b2 b3 m => ⟨pk_in i 6 hi, ?_⟩))) (fun t => absurd (t i hi rfl) (by rw [hb]; simp))
      have ec : bb_cp (p &&& (((1 : Int32) <<< (nI i &&& 31)) ^^^ (-1))) a1 = bb_cp (bb_cl p i) g := bb_cp_congr (p := bb_cl p i) (fun k hk hbk => hG k hk (bb_cl_s (by omega) (by omega) hbk))
      rw [ec] at m ⊢
      rw [nI_clamp (show i < 2 ^ 31 by omega), hG i hi hb]
      exact bb_w_red m (br_c (fun z => h1 z _ ⟨rfl, hG, fun t => absurd rfl t⟩) (fun z => h0 z _ ⟨rfl, hG, fun t => absurd rfl t⟩))
    by_cases z : bb_rd (bb_cp (bb_cl p i) g) (g i) = 0
    · exact ⟨1, fun u hu post h => main u hu post (fun _ => h) (fun n => absurd z n)⟩
    · exact ⟨0, fun u hu post h => main u hu post (fun n => absurd n z) (fun _ => h)⟩
  · refine ⟨0, fun u hu post h => ?_⟩
    obtain ⟨f1, f2, f3, f4, f5, f6, a1, a2, a3, a4⟩ := u
    have e1 : f1 = p := hu.1
    show wpX_redundant post (f1, f2, f3, f4, f5, f6, a1, a2, a3, a4) x
    unfold wpX_redundant
    exact bb_w_has (fun j hj ej hbj => absurd ⟨j, hj, ej, by rw [← e1]; exact hbj⟩ c) (fun _ => br_t rfl (h _ hu))
/-! add, remove -/
theorem bb_w_add0 {post : Int32 → St1 → Prop} {x : Int32} (c : ¬ bb_pl x) (h : post (-1) (f1, f2, f3, f4, f5, f6, a1, a2, a3, a4)) : wpX_add post (f1, f2, f3, f4, f5, f6, a1, a2, a3, a4) x := by
  unfold wpX_add
  exact bb_w_isP (fun _ => br_t rfl h) (fun n => absurd n c)
theorem bb_w_add2 {post : Int32 → St1 → Prop} {x : Int32} (c : bb_pl x) (hp : ∀ i, i < 6 → bb_bt f1 i = true) (h : post (-2) (f1, f2, f3, f4, f5, f6, a1, a2, a3, a4)) : wpX_add post (f1, f2, f3, f4, f5, f6, a1, a2, a3, a4) x := by
  unfold wpX_add
  refine bb_w_isP (fun n => absurd c n) (fun _ => br_f (by decide) ?_)
  refine pk_loop (σ := Unit) (fun n i _ => wX_add_11 post x f1 f2 f3 f4 f5 f6 a1 a2 a3 a4 n (nI i)) (fun _ _ => True) 6 0 () (by omega) trivial ?_ ?_
  · intro n _ _
    exact pk_le 6 6 (fun _ => h) (fun z => absurd z (by omega))
  · intro n i _ hi _ hw
    exact pk_le 6 i (fun z => absurd z (by omega)) (fun _ => bb_w_has (fun j hj ej hbj => br_f (by decide) (nm_r (nI_1 i) (hw () trivial))) (fun t => absurd (t i hi rfl) (by rw [hp i hi]; simp)))
theorem bb_w_add1 {post : Int32 → St1 → Prop} {x : Int32} (c : bb_pl x) {i : Nat} (hi : i < 6) (hp : ∀ j, j < i → bb_bt f1 j = true) (hb : bb_bt f1 i = false)
    (h : post (nI i) (bb_sb f1 i, 0, f3, f4, f5, f6, upd a1 i x, a2, a3, a4)) : wpX_add post (f1, f2, f3, f4, f5, f6, a1, a2, a3, a4) x := by
  unfold wpX_add
  refine bb_w_isP (fun n => absurd c n) (fun _ => br_f (by decide) ?_)
  refine pk_loop (σ := Unit) (fun n i _ => wX_add_11 post x f1 f2 f3 f4 f5 f6 a1 a2 a3 a4 n (nI i)) (fun _ _ => True) i 0 () (by omega) trivial ?_ ?_
  · intro n _ _
    refine pk_le 6 i (fun z => absurd z (by omega)) (fun _ => bb_w_has (fun j hj ej hbj => ?_) (fun _ => br_t rfl (nm_e ⟨pk_in i 6 hi, fun b1 e1 => ?_⟩)))
    · have e' : i = j := (nI_eq (by omega) (by omega)).mp ej
      rw [← e', hb] at hbj
      exact absurd hbj (by simp)
    · rw [nI_clamp (show i < 2 ^ 31 by omega)] at e1
      rw [e1]
      exact h
  · intro n j _ hj _ hw
    exact pk_le 6 j (fun z => absurd z (by omega)) (fun _ => bb_w_has (fun k hk ek hbk => br_f (by decide) (nm_r (nI_1 j) (hw () trivial))) (fun t => absurd (t j (by omega) rfl) (by rw [hp j hj]; simp)))
theorem bb_w_rem1 {post : Int32 → St1 → Prop} {i : Nat} (hi : i < 6) (hb : bb_bt f1 i = true) (h : post 1 (bb_cl f1 i, 0, f3, f4, f5, f6, a1, a2, a3, a4)) :
    wpX_remove post (f1, f2, f3, f4, f5, f6, a1, a2, a3, a4) (nI i) := by
  unfold wpX_remove
  exact bb_w_has (fun j hj ej hbj => br_f (by decide) (nm_e h)) (fun t => absurd (t i hi rfl) (by rw [hb]; simp))
theorem bb_w_rem0 {post : Int32 → St1 → Prop} {x : Int32} (hn : ∀ i, i < 6 → x = nI i → bb_bt f1 i = false) (h : post 0 (f1, f2, f3, f4, f5, f6, a1, a2, a3, a4)) :
    wpX_remove post (f1, f2, f3, f4, f5, f6, a1, a2, a3, a4) x := by
  unfold wpX_remove
  exact bb_w_has (fun j hj ej hbj => absurd hbj (bb_bf (hn j hj ej))) (fun _ => br_t rfl h)
theorem bb_ok_sb {p : Int32} {g : Nat → Int32} {i : Nat} (hi : i < 6) {x : Int32} (hu : bb_ok p g (f1, f2, f3, f4, f5, f6, a1, a2, a3, a4)) :
    bb_ok (bb_sb p i) (upd g i x) (bb_sb f1 i, 0, f3, f4, f5, f6, upd a1 i x, a2, a3, a4) := by
  obtain ⟨e1, hG, hK⟩ := hu
  refine ⟨by rw [e1], fun k hk hb => ?_, fun t => absurd rfl t⟩
  by_cases z : k = i
  · rw [z, pk_us, pk_us]
  · rw [pk_un z, pk_un z]
    rw [bb_sb_b p (by omega) (by omega), decide_eq_false z, Bool.or_false] at hb
    exact hG k hk hb
theorem bb_ok_cl {p : Int32} {g : Nat → Int32} {i : Nat} (hi : i < 6) (hu : bb_ok p g (f1, f2, f3, f4, f5, f6, a1, a2, a3, a4)) :
    bb_ok (bb_cl p i) g (bb_cl f1 i, 0, f3, f4, f5, f6, a1, a2, a3, a4) := by
  obtain ⟨e1, hG, hK⟩ := hu
  exact ⟨by rw [e1], fun k hk hb => hG k hk (bb_cl_s (by omega) (by omega) hb), fun t => absurd rfl t⟩
end
end
section
/-! the law -/
section
variable {f1 f2 f3 f4 f5 f6 : Int32} {a1 a2 a3 a4 : Nat → Int32}
/-- the pictures that occur: six slots, and polynomials in them -/
def bb_V (p : Int32) (g : Nat → Int32) : Prop := (∀ j, 6 ≤ j → bb_bt p j = false) ∧ ∀ i, i < 6 → bb_bt p i = true → bb_16 (g i)
theorem bb_V_cl {p : Int32} {g : Nat → Int32} {i : Nat} (hi : i < 6) (h : bb_V p g) : bb_V (bb_cl p i) g := by
  refine ⟨fun j hj => ?_, fun k hk hb => h.2 k hk (bb_cl_s (by omega) (by omega) hb)⟩
  rcases Nat.lt_or_ge j 32 with z | z
  · rw [bb_cl_b p (by omega) z, h.1 j hj, Bool.false_and]
  · exact bb_big z
theorem bb_V_sb {p : Int32} {g : Nat → Int32} {i : Nat} (hi : i < 6) {x : Int32} (hx : bb_16 x) (h : bb_V p g) : bb_V (bb_sb p i) (upd g i x) := by
  refine ⟨fun j hj => ?_, fun k hk hb => ?_⟩
  · rcases Nat.lt_or_ge j 32 with z | z
    · rw [bb_sb_b p (by omega) z, h.1 j hj, decide_eq_false (show ¬ j = i by omega), Bool.or_false]
    · exact bb_big z
  · by_cases z : k = i
    · rw [z, pk_us]
      exact hx
    · rw [pk_un z]
      rw [bb_sb_b p (by omega) (by omega), decide_eq_false z, Bool.or_false] at hb
      exact h.2 k hk hb
theorem bb_nI16 {j : Nat} (h : j < 65536) : bb_16 (nI j) := by
  intro i hi
  show (BitVec.ofNat 32 j).getLsbD i = false
  rw [BitVec.getLsbD_ofNat, Nat.testBit_lt_two_pow (Nat.lt_of_lt_of_le h (Nat.pow_le_pow_right (by omega) hi : 2 ^ 16 ≤ 2 ^ i)), Bool.and_false]
theorem bb_pl16 {x : Int32} (h : bb_pl x) : bb_16 x := by
  obtain ⟨j, hj, e⟩ := nI_of h.1
  have h2 : j < 65536 := by
    rcases Nat.lt_or_ge j 65536 with z | z
    · exact z
    · exact absurd (show (65535 : Int32) < x by rw [e]; exact nI_lt (a := 65535) (by omega) hj) h.2
  rw [e]
  exact bb_nI16 h2
theorem bb_pl_m (x : Int32) : bb_pl (x &&& 65535) := by
  obtain ⟨j, hj, e⟩ := pk_andE x (m := 65535) 16 (by decide)
  rw [e]
  exact ⟨nI_pos (by omega), nI_nlt (a := 65535) (by omega) (by omega)⟩
theorem bb_free (p : Int32) : ∀ n, (∀ i, i < n → bb_bt p i = true) ∨ ∃ i, i < n ∧ bb_bt p i = false ∧ ∀ j, j < i → bb_bt p j = true := by
  intro n
  induction n with
  | zero => exact Or.inl (fun i hi => absurd hi (by omega))
  | succ n ih =>
    rcases ih with h | ⟨i, hi, h1, h2⟩
    · by_cases c : bb_bt p n = true
      · exact Or.inl (lt_s h c)
      · exact Or.inr ⟨n, by omega, bb_nt c, h⟩
    · exact Or.inr ⟨i, by omega, h1, h2⟩
theorem bb_addA {p : Int32} {g : Nat → Int32} (hV : bb_V p g) (x : Int32) : ∃ p' g', bb_V p' g' ∧ ∀ u, bb_ok p g u → ∀ post : Int32 → St1 → Prop, (∀ r u', bb_ok p' g' u' → post r u') → wpX_add post u x := by
  by_cases c : bb_pl x
  · rcases bb_free p 6 with h | ⟨i, hi, h1, h2⟩
    · refine ⟨p, g, hV, fun u hu post hp => ?_⟩
      obtain ⟨f1, f2, f3, f4, f5, f6, a1, a2, a3, a4⟩ := u
      have e1 : f1 = p := hu.1
      exact bb_w_add2 c (by rw [e1]; exact h) (hp _ _ hu)
    · refine ⟨bb_sb p i, upd g i x, bb_V_sb hi (bb_pl16 c) hV, fun u hu post hp => ?_⟩
      obtain ⟨f1, f2, f3, f4, f5, f6, a1, a2, a3, a4⟩ := u
      have e1 : f1 = p := hu.1
      exact bb_w_add1 c hi (by rw [e1]; exact h2) (by rw [e1]; exact h1) (hp _ _ (bb_ok_sb hi hu))
  · refine ⟨p, g, hV, fun u hu post hp => ?_⟩
    obtain ⟨f1, f2, f3, f4, f5, f6, a1, a2, a3, a4⟩ := u
    exact bb_w_add0 c (hp _ _ hu)
theorem bb_remA {p : Int32} {g : Nat → Int32} (hV : bb_V p g) (x : Int32) : ∃ p' g', bb_V p' g' ∧ ∀ u, bb_ok p g u → ∀ post : Int32 → St1 → Prop, (∀ r u', bb_ok p' g' u' → post r u') → wpX_remove post u x := by
  by_cases c : ∃ i, i < 6 ∧ x = nI i ∧ bb_bt p i = true
  · obtain ⟨i, hi, ex, hb⟩ := c
    refine ⟨bb_cl p i, g, bb_V_cl hi hV, fun u hu post hp => ?_⟩
    obtain ⟨f1, f2, f3, f4, f5, f6, a1, a2, a3, a4⟩ := u
    have e1 : f1 = p := hu.1
    rw [ex]
    exact bb_w_rem1 hi (by rw [e1]; exact hb) (hp _ _ (bb_ok_cl hi hu))
  · refine ⟨p, g, hV, fun u hu post hp => ?_⟩
    obtain ⟨f1, f2, f3, f4, f5, f6, a1, a2, a3, a4⟩ := u
    have e1 : f1 = p := hu.1
    exact bb_w_rem0 (fun i hi e => by rw [e1]; exact bb_nt (fun hb => c ⟨i, hi, e, hb⟩)) (hp _ _ hu)
theorem bb_turn {p : Int32} {g : Nat → Int32} (hV : bb_V p g) (x y : Int32) : ∃ p' g', bb_V p' g' ∧ ∀ u, bb_ok p g u → ∀ post : St1 → Prop, (∀ u', bb_ok p' g' u' → post u') → wpL_turn post u x y := by
  by_cases c : 4 < (x &&& 7)
  · obtain ⟨p', g', hV', h⟩ := bb_remA hV y
    refine ⟨p', g', hV', fun u hu post hp => ?_⟩
    obtain ⟨f1, f2, f3, f4, f5, f6, a1, a2, a3, a4⟩ := u
    exact br_t c (h _ hu _ (fun r u' hu' => by obtain ⟨g1, g2, g3, g4, g5, g6, c1, c2, c3, c4⟩ := u'; exact hp _ hu'))
  · by_cases c2 : (x &&& 8) = 0
    · obtain ⟨p', g', hV', h⟩ := bb_addA hV y
      refine ⟨p', g', hV', fun u hu post hp => ?_⟩
      obtain ⟨f1, f2, f3, f4, f5, f6, a1, a2, a3, a4⟩ := u
      exact br_f c (br_t c2 (h _ hu _ (fun r u' hu' => by obtain ⟨g1, g2, g3, g4, g5, g6, c1, c2, c3, c4⟩ := u'; exact hp _ hu')))
    · obtain ⟨p', g', hV', h⟩ := bb_addA hV (y &&& 65535)
      refine ⟨p', g', hV', fun u hu post hp => ?_⟩
      obtain ⟨f1, f2, f3, f4, f5, f6, a1, a2, a3, a4⟩ := u
      exact br_f c (br_f c2 (h _ hu _ (fun r u' hu' => by obtain ⟨g1, g2, g3, g4, g5, g6, c1, c2, c3, c4⟩ := u'; exact hp _ hu')))
theorem bb_low : ∀ j, j < 1024 → (-1 : Int32) - nI j < 0 := by decide +kernel
theorem bb_79 {post : Int32 → St1 → Prop} (y : Int32) (h : post 1 (f1, f2, f3, f4, f5, f6, a1, a2, a3, a4)) : wL_thereAndBack_79 post y 1 f1 f2 f3 f4 f5 f6 a1 a2 a3 a4 := by
  obtain ⟨j, hj, e⟩ := pk_andE y (m := 1023) 10 (by decide)
  unfold wL_thereAndBack_79
  rw [e]
  refine bb_w_add0 (fun t => t.2 ?_) (bb_w_add0 (fun t => t.1 (bb_low j hj)) (bb_w_rem0 (fun i hi ei => ?_) (br_f (by decide) (br_t rfl (br_t rfl (br_t rfl h))))))
  · have e6 : (65536 : Int32) + nI j = nI (65536 + j) := nI_add 65536 j
    rw [e6]
    exact nI_lt (a := 65535) (by omega) (by omega)
  · have e6 : (6 : Int32) + nI j = nI (6 + j) := nI_add 6 j
    rw [e6, nI_eq (by omega) (by omega)] at ei
    exact absurd ei (by omega)
theorem bb_63 : ∀ i, i < 32 → bb_bt 63 i = decide (i < 6) := by decide +kernel
theorem bb_full {p : Int32} {g : Nat → Int32} (hV : bb_V p g) (h : ∀ i, i < 6 → bb_bt p i = true) : p = 63 := by
  apply bb_ext
  intro i hi
  rw [bb_63 i hi]
  by_cases z : i < 6
  · rw [h i z, decide_eq_true z]
  · rw [hV.1 i (by omega), decide_eq_false z]
theorem bb_clsb {p : Int32} {i : Nat} (hi : i < 6) (h : bb_bt p i = false) : bb_cl (bb_sb p i) i = p := by
  apply bb_ext
  intro k hk
  rw [bb_cl_b _ (by omega) hk, bb_sb_b _ (by omega) hk]
  by_cases z : k = i
  · rw [z, h, decide_eq_true rfl]
    rfl
  · rw [decide_eq_false z, Bool.or_false]
    exact Bool.and_true _
/-- a slot that is not present may hold anything -/
theorem bb_ok_up {p : Int32} {g : Nat → Int32} {i : Nat} {x : Int32} (h : bb_bt p i = false) (hu : bb_ok p (upd g i x) (f1, 0, f3, f4, f5, f6, a1, a2, a3, a4)) : bb_ok p g (f1, 0, f3, f4, f5, f6, a1, a2, a3, a4) := by
  obtain ⟨e1, hG, _⟩ := hu
  refine ⟨e1, fun k hk hb => ?_, fun t => absurd rfl t⟩
  have w := hG k hk hb
  rw [pk_un (show k ≠ i from fun z => by rw [z, h] at hb; exact absurd hb (by simp))] at w
  exact w
theorem bb_tab {p : Int32} {g : Nat → Int32} (hV : bb_V p g) {post : Int32 → St1 → Prop} (x y : Int32) (hu : bb_ok p g (f1, f2, f3, f4, f5, f6, a1, a2, a3, a4)) (h : ∀ u', bb_ok p g u' → post 1 u') : wpL_thereAndBack post (f1, f2, f3, f4, f5, f6, a1, a2, a3, a4) x y := by
  have c := bb_pl_m x
  have e1 : f1 = p := hu.1
  unfold wpL_thereAndBack
  rcases bb_free p 6 with hp | ⟨i, hi, h1, h2⟩
  · refine bb_w_add2 c (by rw [e1]; exact hp) (br_f (by decide) ?_)
    refine br_t (e1.trans (bb_full hV hp)) ?_
    exact br_t (by decide) (bb_79 y (h _ hu))
  · refine bb_w_add1 c hi (by rw [e1]; exact h2) (by rw [e1]; exact h1) (br_t (nI_pos' (by omega)) (br_f (nI_pos (by omega)) ?_))
    have hu1 := bb_ok_sb hi (x := x &&& 65535) hu
    have hV1 := bb_V_sb hi (bb_pl16 c) hV
    have hb1 : bb_bt (bb_sb p i) i = true := by
      rw [bb_sb_b p (by omega) (by omega), decide_eq_true rfl, Bool.or_true]
    have hin := bb_in hV1.2 hi hb1
    rw [pk_us] at hin
    refine bb_w_cont c hu1 (fun _ u' hu2 => ?_) (fun n => absurd hin n)
    obtain ⟨g1, g2, g3, g4, g5, g6, c1, c2, c3, c4⟩ := u'
    have k1 : g1 = bb_sb p i := hu2.1
    refine bb_w_rem1 hi (by rw [k1]; exact hb1) ?_
    have hu3 := bb_ok_cl hi hu2
    rw [bb_clsb hi h1] at hu3
    have k2 : bb_cl g1 i = p := hu3.1
    refine bb_w_rem0 (fun j hj ej => ?_) ?_
    · have e' : i = j := (nI_eq (by omega) (by omega)).mp ej
      rw [k2, ← e']
      exact h1
    · exact br_f (by decide) (br_f (by decide) (br_t rfl (bb_79 y (h _ (bb_ok_up h1 hu3)))))
theorem bb_52 {p : Int32} {g : Nat → Int32} {g1 g2 g3 g4 g5 g6 : Int32} {c1 c2 c3 c4 : Nat → Int32} {post : Int32 → St2 → Prop} (hu : bb_ok p g (f1, f2, f3, f4, f5, f6, a1, a2, a3, a4)) (hv : bb_ok p g (g1, g2, g3, g4, g5, g6, c1, c2, c3, c4)) (h : ∀ w, post 1 w) :
    ∃ n, wL_alike_52 post n 1 0 f1 f2 f3 f4 f5 f6 a1 a2 a3 a4 g1 g2 g3 g4 g5 g6 c1 c2 c3 c4 := by
  refine pk_loop (σ := St1 × St1) (fun n i s => wL_alike_52 post n 1 (nI i) s.1.1 s.1.2.1 s.1.2.2.1 s.1.2.2.2.1 s.1.2.2.2.2.1 s.1.2.2.2.2.2.1 s.1.2.2.2.2.2.2.1 s.1.2.2.2.2.2.2.2.1 s.1.2.2.2.2.2.2.2.2.1 s.1.2.2.2.2.2.2.2.2.2 s.2.1 s.2.2.1 s.2.2.2.1 s.2.2.2.2.1 s.2.2.2.2.2.1 s.2.2.2.2.2.2.1 s.2.2.2.2.2.2.2.1 s.2.2.2.2.2.2.2.2.1 s.2.2.2.2.2.2.2.2.2.1 s.2.2.2.2.2.2.2.2.2.2) (fun _ s => bb_ok p g s.1 ∧ bb_ok p g s.2) 16 0 ((f1, f2, f3, f4, f5, f6, a1, a2, a3, a4), (g1, g2, g3, g4, g5, g6, c1, c2, c3, c4)) (by omega) ⟨hu, hv⟩ ?_ ?_
  · intro n s _
    exact pk_le 16 16 (fun _ => ⟨rfl, h _⟩) (fun z => absurd z (by omega))
  · rintro n i ⟨⟨f1, f2, f3, f4, f5, f6, a1, a2, a3, a4⟩, ⟨g1, g2, g3, g4, g5, g6, c1, c2, c3, c4⟩⟩ hi ⟨hu, hv⟩ hw
    have hw : ∀ u v, bb_ok p g u → bb_ok p g v → (fun s : St1 × St1 => wL_alike_52 post n 1 (nI (i + 1)) s.1.1 s.1.2.1 s.1.2.2.1 s.1.2.2.2.1 s.1.2.2.2.2.1 s.1.2.2.2.2.2.1 s.1.2.2.2.2.2.2.1 s.1.2.2.2.2.2.2.2.1 s.1.2.2.2.2.2.2.2.2.1 s.1.2.2.2.2.2.2.2.2.2 s.2.1 s.2.2.1 s.2.2.2.1 s.2.2.2.2.1 s.2.2.2.2.2.1 s.2.2.2.2.2.2.1 s.2.2.2.2.2.2.2.1 s.2.2.2.2.2.2.2.2.1 s.2.2.2.2.2.2.2.2.2.1 s.2.2.2.2.2.2.2.2.2.2) (u, v) := fun u v hu hv => hw (u, v) ⟨hu, hv⟩
    obtain ⟨F1, q1⟩ := bb_q_basisAt p g (nI i)
    obtain ⟨F2, q2⟩ := bb_q_rest p g (4099 * nI i)
    obtain ⟨F3, q3⟩ := bb_q_relates p g (nI i)
    obtain ⟨F4, q4⟩ := bb_q_redundant p g (nI i)
    obtain ⟨F5, q5⟩ := bb_q_values p g (nI i)
    obtain ⟨F6, q6⟩ := bb_q_contains p g ((1 : Int32) <<< (nI i &&& 31))
    show wL_alike_52 post (n + 1) 1 (nI i) f1 f2 f3 f4 f5 f6 a1 a2 a3 a4 g1 g2 g3 g4 g5 g6 c1 c2 c3 c4
    refine pk_le 16 i (fun z => absurd z (by omega)) (fun _ => br_f (by decide) ?_)
    clear hi
    refine q1 _ hu _ (fun u hu => ?_)
    obtain ⟨f1, f2, f3, f4, f5, f6, a1, a2, a3, a4⟩ := u
    refine q1 _ hv _ (fun v hv => ?_)
    obtain ⟨g1, g2, g3, g4, g5, g6, c1, c2, c3, c4⟩ := v
    refine br_t rfl (q2 _ hu _ (fun u hu => ?_))
    obtain ⟨f1, f2, f3, f4, f5, f6, a1, a2, a3, a4⟩ := u
    refine q2 _ hv _ (fun v hv => ?_)
    obtain ⟨g1, g2, g3, g4, g5, g6, c1, c2, c3, c4⟩ := v
    refine br_t rfl (q3 _ hu _ (fun u hu => ?_))
    obtain ⟨f1, f2, f3, f4, f5, f6, a1, a2, a3, a4⟩ := u
    refine q3 _ hv _ (fun v hv => ?_)
    obtain ⟨g1, g2, g3, g4, g5, g6, c1, c2, c3, c4⟩ := v
    refine br_t rfl (q4 _ hu _ (fun u hu => ?_))
    obtain ⟨f1, f2, f3, f4, f5, f6, a1, a2, a3, a4⟩ := u
    refine q4 _ hv _ (fun v hv => ?_)
    obtain ⟨g1, g2, g3, g4, g5, g6, c1, c2, c3, c4⟩ := v
    refine br_t rfl (q5 _ hu _ (fun u hu => ?_))
    obtain ⟨f1, f2, f3, f4, f5, f6, a1, a2, a3, a4⟩ := u
    refine q5 _ hv _ (fun v hv => ?_)
    obtain ⟨g1, g2, g3, g4, g5, g6, c1, c2, c3, c4⟩ := v
    refine br_t rfl (q6 _ hu _ (fun u hu => ?_))
    obtain ⟨f1, f2, f3, f4, f5, f6, a1, a2, a3, a4⟩ := u
    refine q6 _ hv _ (fun v hv => ?_)
    obtain ⟨g1, g2, g3, g4, g5, g6, c1, c2, c3, c4⟩ := v
    exact br_t rfl (nm_r (nI_1 i) (hw (f1, f2, f3, f4, f5, f6, a1, a2, a3, a4) (g1, g2, g3, g4, g5, g6, c1, c2, c3, c4) hu hv))
theorem bb_alike {p : Int32} {g : Nat → Int32} {g1 g2 g3 g4 g5 g6 : Int32} {c1 c2 c3 c4 : Nat → Int32} {post : Int32 → St2 → Prop} (hu : bb_ok p g (f1, f2, f3, f4, f5, f6, a1, a2, a3, a4)) (hv : bb_ok p g (g1, g2, g3, g4, g5, g6, c1, c2, c3, c4)) (h : ∀ w, post 1 w) :
    wpL_alike post (f1, f2, f3, f4, f5, f6, a1, a2, a3, a4, g1, g2, g3, g4, g5, g6, c1, c2, c3, c4) := by
  obtain ⟨F1, q1⟩ := bb_q_zeros p g
  obtain ⟨F2, q2⟩ := bb_q_bound p g
  obtain ⟨F3, q3⟩ := bb_q_basisSize p g
  have e1 : f1 = g1 := hu.1.trans hv.1.symm
  unfold wpL_alike
  refine br_t e1 ?_
  refine q1 _ hu _ (fun u hu => ?_)
  obtain ⟨f1, f2, f3, f4, f5, f6, a1, a2, a3, a4⟩ := u
  refine q1 _ hv _ (fun v hv => ?_)
  obtain ⟨g1, g2, g3, g4, g5, g6, c1, c2, c3, c4⟩ := v
  refine br_t rfl (q2 _ hu _ (fun u hu => ?_))
  obtain ⟨f1, f2, f3, f4, f5, f6, a1, a2, a3, a4⟩ := u
  refine q2 _ hv _ (fun v hv => ?_)
  obtain ⟨g1, g2, g3, g4, g5, g6, c1, c2, c3, c4⟩ := v
  refine br_t rfl (q3 _ hu _ (fun u hu => ?_))
  obtain ⟨f1, f2, f3, f4, f5, f6, a1, a2, a3, a4⟩ := u
  refine q3 _ hv _ (fun v hv => ?_)
  obtain ⟨g1, g2, g3, g4, g5, g6, c1, c2, c3, c4⟩ := v
  exact br_t rfl (bb_52 hu hv h)
theorem bb_18 {L : Nat} {xs : Nat → Int32} (hL : L ≤ 260) {kc ks : Nat} {p : Int32} {g : Nat → Int32} {g1 g2 g3 g4 g5 g6 : Int32} {c1 c2 c3 c4 : Nat → Int32} (hV : bb_V p g) (hu : bb_ok p g (f1, f2, f3, f4, f5, f6, a1, a2, a3, a4)) (hv : bb_ok p g (g1, g2, g3, g4, g5, g6, c1, c2, c3, c4)) :
    ∃ n, wL_law_18 (fun r => r = 1) L xs kc ks n 0 f1 f2 f3 f4 f5 f6 a1 a2 a3 a4 g1 g2 g3 g4 g5 g6 c1 c2 c3 c4 := by
  refine pk_loop (σ := St1 × St1) (fun n i s => wL_law_18 (fun r => r = 1) L xs kc ks n (nI (2 * i)) s.1.1 s.1.2.1 s.1.2.2.1 s.1.2.2.2.1 s.1.2.2.2.2.1 s.1.2.2.2.2.2.1 s.1.2.2.2.2.2.2.1 s.1.2.2.2.2.2.2.2.1 s.1.2.2.2.2.2.2.2.2.1 s.1.2.2.2.2.2.2.2.2.2 s.2.1 s.2.2.1 s.2.2.2.1 s.2.2.2.2.1 s.2.2.2.2.2.1 s.2.2.2.2.2.2.1 s.2.2.2.2.2.2.2.1 s.2.2.2.2.2.2.2.2.1 s.2.2.2.2.2.2.2.2.2.1 s.2.2.2.2.2.2.2.2.2.2) (fun _ s => ∃ p g, bb_V p g ∧ bb_ok p g s.1 ∧ bb_ok p g s.2) (L / 2) 0 ((f1, f2, f3, f4, f5, f6, a1, a2, a3, a4), (g1, g2, g3, g4, g5, g6, c1, c2, c3, c4)) (by omega) ⟨p, g, hV, hu, hv⟩ ?_ ?_
  · rintro n ⟨⟨f1, f2, f3, f4, f5, f6, a1, a2, a3, a4⟩, ⟨g1, g2, g3, g4, g5, g6, c1, c2, c3, c4⟩⟩ ⟨p, g, hV, hu, hv⟩
    exact pk_le L (2 * (L / 2) + 1) (fun _ => bb_alike hu hv (fun w => by rcases w with ⟨_, _, _, _, _, _, _, _, _, _, _, _, _, _, _, _, _, _, _, _⟩; rfl)) (fun z => absurd z (by omega)) rfl (nI_1 _)
  · rintro n i ⟨⟨f1, f2, f3, f4, f5, f6, a1, a2, a3, a4⟩, ⟨g1, g2, g3, g4, g5, g6, c1, c2, c3, c4⟩⟩ hi ⟨p, g, hV, hu, hv⟩ hw
    obtain ⟨p', g', hV', ht⟩ := bb_turn hV (xs (2 * i)) (xs (2 * i + 1))
    have hw : ∀ u v, bb_ok p' g' u → bb_ok p' g' v → (fun s : St1 × St1 => wL_law_18 (fun r => r = 1) L xs kc ks n (nI (2 * (i + 1))) s.1.1 s.1.2.1 s.1.2.2.1 s.1.2.2.2.1 s.1.2.2.2.2.1 s.1.2.2.2.2.2.1 s.1.2.2.2.2.2.2.1 s.1.2.2.2.2.2.2.2.1 s.1.2.2.2.2.2.2.2.2.1 s.1.2.2.2.2.2.2.2.2.2 s.2.1 s.2.2.1 s.2.2.2.1 s.2.2.2.2.1 s.2.2.2.2.2.1 s.2.2.2.2.2.2.1 s.2.2.2.2.2.2.2.1 s.2.2.2.2.2.2.2.2.1 s.2.2.2.2.2.2.2.2.2.1 s.2.2.2.2.2.2.2.2.2.2) (u, v) := fun u v hu hv => hw (u, v) ⟨p', g', hV', hu, hv⟩
    show wL_law_18 (fun r => r = 1) L xs kc ks (n + 1) (nI (2 * i)) f1 f2 f3 f4 f5 f6 a1 a2 a3 a4 g1 g2 g3 g4 g5 g6 c1 c2 c3 c4
    have ei : nI (2 * i) + 1 = nI (2 * i + 1) := nI_1 _
    have i0 : vp_in (nI (2 * i)) L := vp_in_nI (by omega) (by omega)
    have i1 : vp_in (nI (2 * i) + 1) L := by
      rw [ei]
      exact vp_in_nI (by omega) (by omega)
    refine pk_le L (2 * i + 1) (fun z => absurd z (by omega)) (fun _ => ⟨i0, i1, ?_⟩) rfl ei
    rw [ei, nI_clamp (show 2 * i < 2 ^ 31 by omega), nI_clamp (show 2 * i + 1 < 2 ^ 31 by omega)]
    rw [ei] at i1
    refine ht _ hu _ (fun u hu => ?_)
    obtain ⟨f1, f2, f3, f4, f5, f6, a1, a2, a3, a4⟩ := u
    refine ⟨i0, i1, ht _ hv _ (fun v hv => ?_)⟩
    obtain ⟨g1, g2, g3, g4, g5, g6, c1, c2, c3, c4⟩ := v
    refine ⟨i0, i1, bb_tab hV' _ _ hv (fun v hv => ?_)⟩
    obtain ⟨g1, g2, g3, g4, g5, g6, c1, c2, c3, c4⟩ := v
    have e2 : nI (2 * i) + 2 = nI (2 * (i + 1)) := by
      rw [show 2 * (i + 1) = 2 * i + 2 by omega]
      exact nI_add (2 * i) 2
    exact br_f (by decide) (nm_r e2 (hw (f1, f2, f3, f4, f5, f6, a1, a2, a3, a4) (g1, g2, g3, g4, g5, g6, c1, c2, c3, c4) hu hv))
end
theorem i_vc (xs : Nat → Int32) (L : Nat) (hL : L ≤ 260) : wpL_law (fun r => r = 1) L xs := by
  have h0 : bb_ok 0 (fun _ => 0) (0, 0, 0, 0, 0, 0, (fun _ => 0), (fun _ => 0), (fun _ => 0), (fun _ => 0)) := ⟨rfl, fun i _ hb => absurd hb (bb_bf (bb_0 i)), fun t => absurd rfl t⟩
  have hV : bb_V 0 (fun _ => 0) := ⟨fun j _ => bb_0 j, fun i _ hb => absurd hb (bb_bf (bb_0 i))⟩
  refine ⟨4, 86, by omega, by omega, ?_⟩
  refine ⟨by omega, by omega, by omega, by omega, by omega, by omega, by omega, by omega, ?_⟩
  refine ⟨by omega, by omega, 4, 86, by omega, by omega, ?_⟩
  exact ⟨by omega, by omega, by omega, by omega, by omega, by omega, by omega, by omega, bb_18 hL hV h0 h0⟩
end
