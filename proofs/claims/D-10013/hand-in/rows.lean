section
/-- a truth as an int -/
def re_i : Bool → Int32
  | true => 1
  | false => 0
theorem re_br {b : Bool} {A B : Prop} (f : b = false → A) (g : b = true → B) : (re_i b = 0 → A) ∧ (¬ re_i b = 0 → B) := by
  cases b
  · exact br_t rfl (f rfl)
  · exact br_f (show ¬ (1 : Int32) = 0 by decide) (g rfl)
/-! ===== counting ===== -/
def re_cn (P : Nat → Bool) : Nat → Nat
  | 0 => 0
  | n + 1 => re_cn P n + (if P n then 1 else 0)
theorem re_cn_t {P : Nat → Bool} {n : Nat} (h : P n = true) : re_cn P (n + 1) = re_cn P n + 1 := by simp [re_cn, h]
theorem re_cn_f {P : Nat → Bool} {n : Nat} (h : P n = false) : re_cn P (n + 1) = re_cn P n := by simp [re_cn, h]
theorem re_cn_s (P : Nat → Bool) (n : Nat) : (P n = true ∧ re_cn P (n + 1) = re_cn P n + 1) ∨ (P n = false ∧ re_cn P (n + 1) = re_cn P n) := by
  cases h : P n
  · exact Or.inr ⟨rfl, re_cn_f h⟩
  · exact Or.inl ⟨rfl, re_cn_t h⟩
theorem re_cn_le (P : Nat → Bool) (n : Nat) : re_cn P n ≤ n := by
  induction n with
  | zero => exact Nat.le_refl 0
  | succ n ih => rcases re_cn_s P n with ⟨_, h⟩ | ⟨_, h⟩ <;> omega
theorem re_cn_mono (P : Nat → Bool) (a d : Nat) : re_cn P a ≤ re_cn P (a + d) := by
  induction d with
  | zero => exact Nat.le_refl _
  | succ d ih =>
    show _ ≤ re_cn P ((a + d) + 1)
    rcases re_cn_s P (a + d) with ⟨_, h⟩ | ⟨_, h⟩ <;> omega
theorem re_cn_mono' (P : Nat → Bool) {a b : Nat} (h : a ≤ b) : re_cn P a ≤ re_cn P b := by
  obtain ⟨d, rfl⟩ : ∃ d, b = a + d := ⟨b - a, by omega⟩
  exact re_cn_mono P a d
theorem re_cn_flat {P Q : Nat → Bool} (a d : Nat) (e : re_cn P (a + d) = re_cn P a) : re_cn (fun c => P c && Q c) (a + d) = re_cn (fun c => P c && Q c) a := by
  induction d with
  | zero => rfl
  | succ d ih =>
    have e' : re_cn P ((a + d) + 1) = re_cn P a := e
    have m := re_cn_mono P a d
    rcases re_cn_s P (a + d) with ⟨h1, h⟩ | ⟨h1, h⟩
    · omega
    · have g : re_cn (fun c => P c && Q c) ((a + d) + 1) = re_cn (fun c => P c && Q c) (a + d) := re_cn_f (by show (P (a + d) && Q (a + d)) = false; rw [h1]; rfl)
      show re_cn (fun c => P c && Q c) ((a + d) + 1) = _
      rw [g]
      exact ih (by omega)
theorem re_cn_congr {P Q : Nat → Bool} {n : Nat} (h : ∀ c, c < n → P c = Q c) : re_cn P n = re_cn Q n := by
  induction n with
  | zero => rfl
  | succ n ih =>
    show re_cn P n + _ = re_cn Q n + _
    rw [ih (fun c hc => h c (by omega)), h n (by omega)]
theorem re_cn_ex {P : Nat → Bool} {N k : Nat} (h : k < re_cn P N) : ∃ c, c < N ∧ P c = true ∧ re_cn P c = k := by
  induction N with
  | zero => exact absurd h (Nat.not_lt_zero _)
  | succ n ih =>
    by_cases g : k < re_cn P n
    · obtain ⟨c, h1, h2⟩ := ih g
      exact ⟨c, by omega, h2⟩
    · rcases re_cn_s P n with ⟨h1, h2⟩ | ⟨h1, h2⟩
      · exact ⟨n, by omega, h1, by omega⟩
      · omega
/-- the k-th place of P, from place c on, n places; ms is added -/
def re_fm (P : Nat → Bool) (k ms : Nat) : Nat → Nat → Int32
  | 0, _ => -1
  | n + 1, c => if P c = true then (if re_cn P c = k then nI (c + ms) else re_fm P k ms n (c + 1)) else re_fm P k ms n (c + 1)
theorem re_fm_hit' {P : Nat → Bool} {k ms c : Nat} (hP : P c = true) (hk : re_cn P c = k) (n : Nat) : ∀ i, i ≤ c → c < i + n → re_fm P k ms n i = nI (c + ms) := by
  induction n with
  | zero => intro i h1 h2; omega
  | succ n ih =>
    intro i h1 h2
    unfold re_fm
    by_cases e : i = c
    · subst e
      rw [if_pos hP, if_pos hk]
    · have t := ih (i + 1) (by omega) (by omega)
      by_cases hi : P i = true
      · have m := re_cn_mono' P (show i + 1 ≤ c by omega)
        rw [re_cn_t hi] at m
        rw [if_pos hi, if_neg (by omega), t]
      · rw [if_neg hi, t]
theorem re_fm_hit {P : Nat → Bool} {k ms c N : Nat} (hc : c < N) (hP : P c = true) (hk : re_cn P c = k) : re_fm P k ms N 0 = nI (c + ms) := re_fm_hit' hP hk N 0 (by omega) (by omega)
theorem re_fm_miss' {P : Nat → Bool} {k ms N : Nat} (h : re_cn P N ≤ k) (n : Nat) : ∀ i, i + n = N → re_fm P k ms n i = -1 := by
  induction n with
  | zero => intro i _; rfl
  | succ n ih =>
    intro i hi
    unfold re_fm
    have t := ih (i + 1) (by omega)
    by_cases g : P i = true
    · have m := re_cn_mono' P (show i + 1 ≤ N by omega)
      rw [re_cn_t g] at m
      rw [if_pos g, if_neg (by omega), t]
    · rw [if_neg g, t]
theorem re_fm_miss {P : Nat → Bool} {k ms N : Nat} (h : re_cn P N ≤ k) : re_fm P k ms N 0 = -1 := re_fm_miss' h N 0 (by omega)
/-! ===== the set of facts: bits of an int ===== -/
def re_h (x : Int32) (i : Nat) : Bool := x.toBitVec.getLsbD i
theorem re_h_ext {x y : Int32} (h : ∀ i, i < 32 → re_h x i = re_h y i) : x = y := Int32.toBitVec_inj.mp (BitVec.eq_of_getLsbD_eq (fun i hi => h i hi))
theorem re_h_or (x y : Int32) (i : Nat) : re_h (x ||| y) i = (re_h x i || re_h y i) := by unfold re_h; rw [Int32.toBitVec_or, BitVec.getLsbD_or]
theorem re_h_and (x y : Int32) (i : Nat) : re_h (x &&& y) i = (re_h x i && re_h y i) := by unfold re_h; rw [Int32.toBitVec_and, BitVec.getLsbD_and]
theorem re_h_xor (x y : Int32) (i : Nat) : re_h (x ^^^ y) i = (re_h x i ^^ re_h y i) := by unfold re_h; rw [Int32.toBitVec_xor, BitVec.getLsbD_xor]
theorem re_h_big {x : Int32} {i : Nat} (h : 32 ≤ i) : re_h x i = false := BitVec.getLsbD_of_ge _ _ h
theorem re_h_m1 : ∀ i, i < 32 → re_h (-1) i = true := by decide +kernel
theorem re_h_c127 : ∀ i, i < 32 → re_h 127 i = decide (i < 7) := by decide +kernel
theorem re_h_c1 : ∀ i, i < 32 → re_h 1 i = decide (i = 0) := by decide +kernel
theorem re_h_0 (i : Nat) : re_h 0 i = false := BitVec.getLsbD_zero
theorem re_h_tp : ∀ l, l < 32 → ((1 : Int32) <<< (nI l &&& 31)).toBitVec = BitVec.twoPow 32 l := by decide +kernel
theorem re_h_one {l : Nat} (hl : l < 32) (i : Nat) : re_h ((1 : Int32) <<< (nI l &&& 31)) i = decide (l = i) := by
  unfold re_h
  rw [re_h_tp l hl, BitVec.getLsbD_twoPow, decide_eq_true hl, Bool.true_and]
theorem re_h_add (p : Int32) {f : Nat} (hf : f < 32) (g : Nat) : re_h (p ||| ((1 : Int32) <<< (nI f &&& 31))) g = (re_h p g || decide (f = g)) := by
  rw [re_h_or, re_h_one hf]
theorem re_h_rem (p : Int32) {f : Nat} (hf : f < 32) (g : Nat) : re_h (p &&& (((1 : Int32) <<< (nI f &&& 31)) ^^^ (-1))) g = (re_h p g && !decide (f = g)) := by
  rcases Nat.lt_or_ge g 32 with h | h
  · rw [re_h_and, re_h_xor, re_h_one hf, re_h_m1 g h, Bool.xor_true]
  · rw [re_h_big h, re_h_big (x := p) h, Bool.false_and]
theorem re_h_back {p : Int32} {f : Nat} (hf : f < 7) (h : re_h p f = false) : (p ||| ((1 : Int32) <<< (nI f &&& 31))) &&& (((1 : Int32) <<< (nI f &&& 31)) ^^^ (-1)) = p := by
  apply re_h_ext
  intro i _
  rw [re_h_rem _ (by omega), re_h_add _ (by omega)]
  by_cases e : f = i
  · subst e; rw [h]; simp
  · simp [e]
theorem re_h_127 {p : Int32} (hp : ∀ g, 7 ≤ g → re_h p g = false) : p = 127 ↔ ∀ g, g < 7 → re_h p g = true := by
  constructor
  · intro e g hg
    rw [e, re_h_c127 g (by omega), decide_eq_true hg]
  · intro h
    apply re_h_ext
    intro i hi
    rw [re_h_c127 i hi]
    rcases Nat.lt_or_ge i 7 with z | z
    · rw [h i z, decide_eq_true z]
    · rw [hp i z, decide_eq_false (by omega)]
theorem re_s_l : ∀ n, n < 32 → ((nI n &&& 31).toBitVec.smod 32).toNat = n := by decide +kernel
theorem re_h_shr (p : Int32) {f : Nat} (hf : f < 32) : re_h (p >>> (nI f &&& 31)) 0 = re_h p f := by
  unfold re_h
  rw [Int32.toBitVec_shiftRight]
  show (p.toBitVec.sshiftRight ((nI f &&& 31).toBitVec.smod 32).toNat).getLsbD 0 = _
  rw [re_s_l f hf, BitVec.getLsbD_sshiftRight]
  simp [hf]
theorem re_hb (p : Int32) {f : Nat} (hf : f < 32) : ((p >>> (nI f &&& 31)) &&& 1) = 0 ↔ re_h p f = false := by
  constructor
  · intro h
    have t : re_h ((p >>> (nI f &&& 31)) &&& 1) 0 = false := by rw [h]; exact re_h_0 0
    rw [re_h_and, re_h_shr p hf, re_h_c1 0 (by omega)] at t
    simpa using t
  · intro h
    apply re_h_ext
    intro i hi
    rw [re_h_and, re_h_0, re_h_c1 i hi]
    by_cases e : i = 0
    · subst e; rw [re_h_shr p hf, h, Bool.false_and]
    · rw [decide_eq_false e, Bool.and_false]
theorem re_01 (y : Int32) : (y &&& 1) = 1 ↔ ¬ (y &&& 1) = 0 := by
  obtain ⟨j, hj, e⟩ := pk_andE y (m := 1) 1 (by decide)
  rw [e]
  rcases (show j = 0 ∨ j = 1 by omega) with rfl | rfl <;> decide
theorem re_hb1 (p : Int32) {f : Nat} (hf : f < 32) : ((p >>> (nI f &&& 31)) &&& 1) = 1 ↔ re_h p f = true := by
  rw [re_01, re_hb p hf]
  cases re_h p f <;> simp
/-! ===== the sets of matches: bits of longs ===== -/
def re_b (w : Nat → Int64) (r L c : Nat) : Bool := (w (r * 11 + L + c / 64)).toBitVec.getLsbD (c % 64)
def re_pt (w : Nat → Int64) (r L c : Nat) : Nat → Int64 := vp_updL w (r * 11 + L + c / 64) (w (r * 11 + L + c / 64) ||| ((1 : Int64) <<< ((nI (c % 64)).toInt64 &&& 63)))
theorem re_rng {L c : Nat} (hL : L ≤ 3) (hc : c < 8 ^ L) : c < 512 ∧ (L ≤ 2 → c < 64) := by
  rcases (show L = 0 ∨ L = 1 ∨ L = 2 ∨ L = 3 by omega) with rfl | rfl | rfl | rfl <;> simp at hc <;> omega
theorem re_p8 {L : Nat} (hL : L ≤ 3) : 8 ^ L ≤ 512 ∧ 0 < 8 ^ L := by
  rcases (show L = 0 ∨ L = 1 ∨ L = 2 ∨ L = 3 by omega) with rfl | rfl | rfl | rfl <;> decide
theorem re_sh1 : ∀ k, k < 64 → ((1 : Int64) <<< ((nI k).toInt64 &&& 63)).toBitVec = BitVec.twoPow 64 k := by decide +kernel
theorem re_b_pt (w : Nat → Int64) {r L c r' L' c' : Nat} (hr : r < 3) (hL : L ≤ 3) (hc : c < 8 ^ L) (hr' : r' < 3) (hL' : L' ≤ 3) (hc' : c' < 8 ^ L') :
    re_b (re_pt w r L c) r' L' c' = (re_b w r' L' c' || decide (r' = r ∧ L' = L ∧ c' = c)) := by
  have g := re_rng hL hc
  have g' := re_rng hL' hc'
  unfold re_b re_pt vp_updL
  by_cases e : r' * 11 + L' + c' / 64 = r * 11 + L + c / 64
  · rw [if_pos e, e, Int64.toBitVec_or, BitVec.getLsbD_or, re_sh1 _ (Nat.mod_lt _ (by decide)), BitVec.getLsbD_twoPow]
    congr 1
    rw [decide_eq_true (Nat.mod_lt c (show 0 < 64 by decide)), Bool.true_and]
    apply decide_eq_decide.mpr
    constructor
    · intro h; refine ⟨?_, ?_, ?_⟩ <;> omega
    · intro h; rw [h.2.2]
  · rw [if_neg e, decide_eq_false (by rintro ⟨rfl, rfl, rfl⟩; exact e rfl), Bool.or_false]
theorem re_cu : ∀ k, k < 64 → ((nI k).toInt64.toUInt64 &&& Int64.toUInt64 63).toNat = k := by decide +kernel
theorem re_tst {w : Int64} {s : UInt64} {j : Nat} (hj : j < 64) (hs : s.toNat = j) : ((w.toUInt64 >>> s).toInt64 &&& 1) = 0 ↔ w.toBitVec.getLsbD j = false := by
  have e : (w.toUInt64 >>> s).toInt64.toBitVec = w.toBitVec >>> j := by
    apply BitVec.eq_of_toNat_eq
    show (w.toUInt64 >>> s).toNat = _
    rw [UInt64.toNat_shiftRight, hs, Nat.mod_eq_of_lt hj, BitVec.toNat_ushiftRight]
    rfl
  rw [← Int64.toBitVec_inj, Int64.toBitVec_and, e]
  show w.toBitVec >>> j &&& 1#64 = 0#64 ↔ _
  constructor
  · intro h
    have t := congrArg (fun x => x.getLsbD 0) h
    simpa using t
  · intro h
    apply BitVec.eq_of_getLsbD_eq
    intro i hi
    cases i with
    | zero => simp [h]
    | succ i => simp
/-! ===== codes ===== -/
def re_dg (c i : Nat) : Nat := c / 8 ^ i % 8
theorem re_dg_mod {c i L : Nat} (h : i < L) : re_dg (c % 8 ^ L) i = re_dg c i := by
  unfold re_dg
  obtain ⟨k, rfl⟩ : ∃ k, L = i + (k + 1) := ⟨L - i - 1, by omega⟩
  rw [Nat.pow_add, Nat.mod_mul_right_div_self, Nat.pow_succ, Nat.mul_comm (8 ^ k) 8, Nat.mod_mul_right_mod]
theorem re_dgI : ∀ i, i < 3 → ∀ c, c < 512 → ((nI c >>> ((3 * nI i) &&& 31)) &&& 7) = nI (re_dg c i) := by decide +kernel
theorem re_nxI : ∀ L, L < 3 → ∀ c, c < 8 ^ L → ∀ g, g < 8 → (nI c ||| (nI g <<< ((3 * nI L) &&& 31))) = nI (c + g * 8 ^ L) := by decide +kernel
theorem re_cdI : ∀ L, L < 4 → ((1 : Int32) <<< ((3 * nI L) &&& 31)) = nI (8 ^ L) := by decide +kernel
theorem re_nx_mod {L c g : Nat} (h : c < 8 ^ L) : (c + g * 8 ^ L) % 8 ^ L = c := by rw [Nat.add_mul_mod_self_right, Nat.mod_eq_of_lt h]
theorem re_nx_div {L c g : Nat} (h : c < 8 ^ L) : (c + g * 8 ^ L) / 8 ^ L = g := by rw [Nat.add_mul_div_right _ _ (Nat.pow_pos (by decide)), Nat.div_eq_of_lt h, Nat.zero_add]
theorem re_nx_lt {L c g : Nat} (h : c < 8 ^ L) (hg : g < 8) : c + g * 8 ^ L < 8 ^ (L + 1) := by
  rw [Nat.pow_succ]
  have : g * 8 ^ L ≤ 7 * 8 ^ L := Nat.mul_le_mul_right _ (by omega)
  omega
theorem re_nx_eq {L c' c g : Nat} (h1 : c' % 8 ^ L = c) (h2 : c' / 8 ^ L = g) : c' = c + g * 8 ^ L := by
  subst h1 h2
  rw [Nat.mul_comm]
  exact (Nat.mod_add_div c' (8 ^ L)).symm
theorem re_nx_d8 {L c : Nat} (h : c < 8 ^ (L + 1)) : c / 8 ^ L < 8 := by
  apply Nat.div_lt_of_lt_mul
  rw [← Nat.pow_succ]
  exact h
end
section
/-! ===== what the engine means: demands, fits, bindings, the sets of matches ===== -/
def re_okd (d : Int32) : Prop := ¬ d < 4 → ¬ d = 7 → vp_in (d - 4) 3
def re_m1 (d v : Int32) (t : Nat → Int32) : Bool :=
  if d < 4 ∨ d = 7 then decide (d = 7 ∨ d = v) else decide (t (d - 4).toNatClampNeg = 4 ∨ t (d - 4).toNatClampNeg = v)
def re_m2 (d v : Int32) (t : Nat → Int32) : Nat → Int32 :=
  if d < 4 ∨ d = 7 then t else if t (d - 4).toNatClampNeg = 4 then upd t (d - 4).toNatClampNeg v.toInt8.toInt32 else t
theorem re_okd_lt {d : Int32} (h : re_okd d) (h1 : ¬ (d < 4 ∨ d = 7)) : (d - 4).toNatClampNeg < 3 :=
  Nat.lt_of_not_le (fun z => h (fun y => h1 (Or.inl y)) (fun y => h1 (Or.inr y)) (Or.inr z))
theorem re_m1_c {d v : Int32} {t t' : Nat → Int32} (h : re_okd d) (e : ∀ j, j < 3 → t j = t' j) : re_m1 d v t = re_m1 d v t' := by
  unfold re_m1
  by_cases g : d < 4 ∨ d = 7
  · rw [if_pos g, if_pos g]
  · rw [if_neg g, if_neg g, e _ (re_okd_lt h g)]
theorem re_m2_c {d v : Int32} {t t' : Nat → Int32} (h : re_okd d) (e : ∀ j, j < 3 → t j = t' j) : ∀ j, j < 3 → re_m2 d v t j = re_m2 d v t' j := by
  unfold re_m2
  by_cases g : d < 4 ∨ d = 7
  · rw [if_pos g, if_pos g]
    exact e
  · rw [if_neg g, if_neg g, e _ (re_okd_lt h g)]
    by_cases u : t' (d - 4).toNatClampNeg = 4
    · rw [if_pos u, if_pos u]
      intro j hj
      unfold upd
      by_cases k : j = (d - 4).toNatClampNeg
      · rw [if_pos k, if_pos k]
      · rw [if_neg k, if_neg k, e j hj]
    · rw [if_neg u, if_neg u]
      exact e
def re_nr (b : Nat → Int32) : Nat → Int32 := fun j => vp_nar .byte (b j)
/-- fact f fits condition c with the bindings b -/
def re_ft (kd fa fb wk wa wb : Nat → Int32) (b : Nat → Int32) (c f : Nat) : Bool :=
  decide (kd f = wk c) && (re_m1 (wa c) (fa f) (re_nr b) && re_m1 (wb c) (fb f) (re_m2 (wa c) (fa f) (re_nr b)))
/-- the bindings behind such a fit -/
def re_fb (kd fa fb wk wa wb : Nat → Int32) (b : Nat → Int32) (c f : Nat) : Nat → Int32 := re_nr (re_m2 (wb c) (fb f) (re_m2 (wa c) (fa f) (re_nr b)))
theorem re_ft_c {kd fa fb wk wa wb : Nat → Int32} {kd' fa' fb' wk' wa' wb' : Nat → Int32} {b : Nat → Int32} {c f : Nat} (h1 : kd' f = kd f ∧ fa' f = fa f ∧ fb' f = fb f) (h2 : wk' c = wk c ∧ wa' c = wa c ∧ wb' c = wb c) :
    re_ft kd' fa' fb' wk' wa' wb' b c f = re_ft kd fa fb wk wa wb b c f := by
  unfold re_ft
  rw [h1.1, h1.2.1, h1.2.2, h2.1, h2.2.1, h2.2.2]
theorem re_fb_c {kd fa fb wk wa wb : Nat → Int32} {kd' fa' fb' wk' wa' wb' : Nat → Int32} {b : Nat → Int32} {c f : Nat} (h1 : kd' f = kd f ∧ fa' f = fa f ∧ fb' f = fb f) (h2 : wk' c = wk c ∧ wa' c = wa c ∧ wb' c = wb c) :
    re_fb kd' fa' fb' wk' wa' wb' b c f = re_fb kd fa fb wk wa wb b c f := by
  unfold re_fb
  rw [h1.2.1, h1.2.2, h2.2.1, h2.2.2]
/-- the bindings along the first n conditions of a code -/
def re_ba (kd fa fb wk wa wb : Nat → Int32) (r code : Nat) : Nat → (Nat → Int32)
  | 0 => fun _ => 4
  | i + 1 => if re_dg code i = 7 then re_ba kd fa fb wk wa wb r code i
      else if re_ft kd fa fb wk wa wb (re_ba kd fa fb wk wa wb r code i) (r * 3 + i) (re_dg code i) = true then re_fb kd fa fb wk wa wb (re_ba kd fa fb wk wa wb r code i) (r * 3 + i) (re_dg code i)
      else re_ba kd fa fb wk wa wb r code i
theorem re_ba_c {kd fa fb wk wa wb : Nat → Int32} {kd' fa' fb' wk' wa' wb' : Nat → Int32} {r code : Nat} (n : Nat)
    (hc : ∀ i, i < n → wk' (r * 3 + i) = wk (r * 3 + i) ∧ wa' (r * 3 + i) = wa (r * 3 + i) ∧ wb' (r * 3 + i) = wb (r * 3 + i))
    (hf : ∀ i, i < n → re_dg code i ≠ 7 → kd' (re_dg code i) = kd (re_dg code i) ∧ fa' (re_dg code i) = fa (re_dg code i) ∧ fb' (re_dg code i) = fb (re_dg code i)) :
    re_ba kd' fa' fb' wk' wa' wb' r code n = re_ba kd fa fb wk wa wb r code n := by
  induction n with
  | zero => rfl
  | succ n ih =>
    have e := ih (fun i hi => hc i (by omega)) (fun i hi => hf i (by omega))
    unfold re_ba
    rw [e]
    by_cases h7 : re_dg code n = 7
    · rw [if_pos h7, if_pos h7]
    · rw [if_neg h7, if_neg h7, re_ft_c (hf n (by omega) h7) (hc n (by omega)), re_fb_c (hf n (by omega) h7) (hc n (by omega))]
/-- some fact fits -/
def re_any (p : Int32) (kd fa fb wk wa wb : Nat → Int32) (b : Nat → Int32) (c : Nat) : Bool := (List.range 7).any (fun g => re_h p g && re_ft kd fa fb wk wa wb b c g)
theorem re_any_t {p : Int32} {kd fa fb wk wa wb : Nat → Int32} {b : Nat → Int32} {c g : Nat} (hg : g < 7) (h1 : re_h p g = true) (h2 : re_ft kd fa fb wk wa wb b c g = true) : re_any p kd fa fb wk wa wb b c = true :=
  List.any_eq_true.mpr ⟨g, List.mem_range.mpr hg, by rw [h1, h2]; rfl⟩
theorem re_any_f {p : Int32} {kd fa fb wk wa wb : Nat → Int32} {b : Nat → Int32} {c : Nat} (h : ∀ g, g < 7 → (re_h p g && re_ft kd fa fb wk wa wb b c g) = false) : re_any p kd fa fb wk wa wb b c = false :=
  List.any_eq_false.mpr (fun g hg => by rw [h g (List.mem_range.mp hg)]; decide)
theorem re_any_c {p p' : Int32} {kd fa fb wk wa wb : Nat → Int32} {kd' fa' fb' wk' wa' wb' : Nat → Int32} {b b' : Nat → Int32} {c : Nat}
    (h : ∀ g, g < 7 → (re_h p' g && re_ft kd' fa' fb' wk' wa' wb' b' c g) = (re_h p g && re_ft kd fa fb wk wa wb b c g)) : re_any p' kd' fa' fb' wk' wa' wb' b' c = re_any p kd fa fb wk wa wb b c := by
  cases e : re_any p kd fa fb wk wa wb b c with
  | false =>
    refine re_any_f (fun g hg => ?_)
    rw [h g hg]
    have t := List.any_eq_false.mp e g (List.mem_range.mpr hg)
    exact Bool.eq_false_iff.mpr t
  | true =>
    obtain ⟨g, hg, t⟩ := List.any_eq_true.mp e
    exact List.any_eq_true.mpr ⟨g, hg, by rw [h g (List.mem_range.mp hg)]; exact t⟩
/-- a match of some conditions goes on with g -/
def re_st (p : Int32) (kd fa fb wk wa wb : Nat → Int32) (ng : Nat → Int32) (r L code g : Nat) : Bool :=
  if ng (r * 3 + L) = 0 then (decide (g < 7) && (re_h p g && re_ft kd fa fb wk wa wb (re_ba kd fa fb wk wa wb r code L) (r * 3 + L) g)) else (decide (g = 7) && !re_any p kd fa fb wk wa wb (re_ba kd fa fb wk wa wb r code L) (r * 3 + L))
/-- the matches of the first L conditions of rule r -/
def re_S (p : Int32) (kd fa fb wk wa wb : Nat → Int32) (ng : Nat → Int32) (r : Nat) : Nat → Nat → Bool
  | 0, c => decide (c = 0)
  | L + 1, c => re_S p kd fa fb wk wa wb ng r L (c % 8 ^ L) && re_st p kd fa fb wk wa wb ng r L (c % 8 ^ L) (c / 8 ^ L)
theorem re_S_s {p : Int32} {kd fa fb wk wa wb : Nat → Int32} {ng : Nat → Int32} {r L c : Nat} : re_S p kd fa fb wk wa wb ng r (L + 1) c = (re_S p kd fa fb wk wa wb ng r L (c % 8 ^ L) && re_st p kd fa fb wk wa wb ng r L (c % 8 ^ L) (c / 8 ^ L)) := rfl
theorem re_S_nx {p : Int32} {kd fa fb wk wa wb : Nat → Int32} {ng : Nat → Int32} {r L code g : Nat} (hc : code < 8 ^ L) : re_S p kd fa fb wk wa wb ng r (L + 1) (code + g * 8 ^ L) = (re_S p kd fa fb wk wa wb ng r L code && re_st p kd fa fb wk wa wb ng r L code g) := by
  rw [re_S_s, re_nx_mod hc, re_nx_div hc]
theorem re_st_d {p : Int32} {kd fa fb wk wa wb : Nat → Int32} {ng : Nat → Int32} {r L code g : Nat} (h : re_st p kd fa fb wk wa wb ng r L code g = true) : g = 7 ∨ (g < 7 ∧ re_h p g = true) := by
  unfold re_st at h
  by_cases z : ng (r * 3 + L) = 0
  · rw [if_pos z, Bool.and_eq_true, Bool.and_eq_true] at h
    exact Or.inr ⟨of_decide_eq_true h.1, h.2.1⟩
  · rw [if_neg z, Bool.and_eq_true] at h
    exact Or.inl (of_decide_eq_true h.1)
theorem re_S_dig {p : Int32} {kd fa fb wk wa wb : Nat → Int32} {ng : Nat → Int32} {r : Nat} (L : Nat) : ∀ c, re_S p kd fa fb wk wa wb ng r L c = true → ∀ i, i < L → re_dg c i = 7 ∨ (re_dg c i < 7 ∧ re_h p (re_dg c i) = true) := by
  induction L with
  | zero => intro c _ i hi; omega
  | succ L ih =>
    intro c h i hi
    rw [re_S_s, Bool.and_eq_true] at h
    by_cases e : i < L
    · rw [← re_dg_mod e]
      exact ih _ h.1 i e
    · have e' : i = L := by omega
      subst e'
      have t := re_st_d h.2
      have d : re_dg c i = c / 8 ^ i := Nat.mod_eq_of_lt (by omega)
      rw [d]
      exact t
theorem re_S_c {p p' : Int32} {kd fa fb wk wa wb : Nat → Int32} {kd' fa' fb' wk' wa' wb' : Nat → Int32} {ng ng' : Nat → Int32} {r : Nat} (L : Nat)
    (hc : ∀ i, i < L → (wk' (r * 3 + i) = wk (r * 3 + i) ∧ wa' (r * 3 + i) = wa (r * 3 + i) ∧ wb' (r * 3 + i) = wb (r * 3 + i)) ∧ ng' (r * 3 + i) = ng (r * 3 + i))
    (hh : ∀ g, g < 7 → re_h p' g = re_h p g) (hf : ∀ g, g < 7 → re_h p g = true → kd' g = kd g ∧ fa' g = fa g ∧ fb' g = fb g) :
    ∀ c, re_S p' kd' fa' fb' wk' wa' wb' ng' r L c = re_S p kd fa fb wk wa wb ng r L c := by
  induction L with
  | zero => intro c; rfl
  | succ L ih =>
    intro c
    rw [re_S_s, re_S_s, ih (fun i hi => hc i (by omega))]
    cases hS : re_S p kd fa fb wk wa wb ng r L (c % 8 ^ L) with
    | false => rw [Bool.false_and, Bool.false_and]
    | true =>
      have hba : re_ba kd' fa' fb' wk' wa' wb' r (c % 8 ^ L) L = re_ba kd fa fb wk wa wb r (c % 8 ^ L) L := by
        refine re_ba_c L (fun i hi => (hc i (by omega)).1) (fun i hi h7 => ?_)
        rcases re_S_dig L _ hS i hi with z | z
        · exact absurd z h7
        · exact hf _ z.1 z.2
      have hft : ∀ b g, g < 7 → (re_h p' g && re_ft kd' fa' fb' wk' wa' wb' b (r * 3 + L) g) = (re_h p g && re_ft kd fa fb wk wa wb b (r * 3 + L) g) := by
        intro b g hg
        rw [hh g hg]
        cases e : re_h p g with
        | false => rw [Bool.false_and, Bool.false_and]
        | true => rw [re_ft_c (hf g hg e) (hc L (by omega)).1]
      rw [Bool.true_and, Bool.true_and]
      unfold re_st
      rw [(hc L (by omega)).2, hba]
      by_cases z : ng (r * 3 + L) = 0
      · rw [if_pos z, if_pos z]
        by_cases hg : c / 8 ^ L < 7
        · rw [hft _ _ hg]
        · rw [decide_eq_false hg, Bool.false_and, Bool.false_and]
      · rw [if_neg z, if_neg z, re_any_c (hft _)]
/-- what the sets before a change must be to the sets behind it -/
def re_H (p : Int32) (kd fa fb wk wa wb : Nat → Int32) (ng : Nat → Int32) (r n : Nat) (f ad : Int32) (So : Nat → Nat → Bool) : Prop :=
  ∀ L code, L < n → code < 8 ^ L → So L code = true → re_S p kd fa fb wk wa wb ng r L code = true → ∃ f0, f0 < 7 ∧ f = nI f0 ∧
    (ng (r * 3 + L) = 0 → ∀ g, g < 7 → g ≠ f0 → So (L + 1) (code + g * 8 ^ L) = re_S p kd fa fb wk wa wb ng r (L + 1) (code + g * 8 ^ L)) ∧
    (¬ ng (r * 3 + L) = 0 → (re_ft kd fa fb wk wa wb (re_ba kd fa fb wk wa wb r code L) (r * 3 + L) f0 = false → So (L + 1) (code + 7 * 8 ^ L) = re_S p kd fa fb wk wa wb ng r (L + 1) (code + 7 * 8 ^ L)) ∧
      (re_ft kd fa fb wk wa wb (re_ba kd fa fb wk wa wb r code L) (r * 3 + L) f0 = true → ¬ ad = 0 → re_S p kd fa fb wk wa wb ng r (L + 1) (code + 7 * 8 ^ L) = false))
theorem re_H0 {p : Int32} {kd fa fb wk wa wb : Nat → Int32} {ng : Nat → Int32} {r n : Nat} {f ad : Int32} : re_H p kd fa fb wk wa wb ng r n f ad (fun _ _ => false) :=
  fun _ _ _ _ h => absurd h (show ¬ false = true by decide)
theorem re_H1 {p p' : Int32} {kd fa fb kd' fa' fb' wk wa wb ng : Nat → Int32} {r n f0 : Nat} {ad : Int32} (hf0 : f0 < 7)
    (hne : ∀ g, g ≠ f0 → kd' g = kd g ∧ fa' g = fa g ∧ fb' g = fb g) (hh : ∀ g, g ≠ f0 → re_h p' g = re_h p g)
    (hx : re_h p f0 = false ∨ re_h p' f0 = false) (hr : re_h p f0 = true → kd' f0 = kd f0 ∧ fa' f0 = fa f0 ∧ fb' f0 = fb f0) (had : ¬ ad = 0 → re_h p' f0 = true) :
    re_H p' kd' fa' fb' wk wa wb ng r n (nI f0) ad (re_S p kd fa fb wk wa wb ng r) := by
  intro L code hL hc hSo hSn
  have dig : ∀ i, i < L → re_dg code i ≠ 7 → re_dg code i ≠ f0 := by
    intro i hi h7 e
    rcases re_S_dig L code hSo i hi with z | z
    · exact h7 z
    · rcases re_S_dig L code hSn i hi with y | y
      · exact h7 y
      · rw [e] at z y
        rcases hx with x | x
        · exact absurd (x.symm.trans z.2) (by decide)
        · exact absurd (x.symm.trans y.2) (by decide)
  have hba : re_ba kd' fa' fb' wk wa wb r code L = re_ba kd fa fb wk wa wb r code L := re_ba_c L (fun i _ => ⟨rfl, rfl, rfl⟩) (fun i hi h7 => hne _ (dig i hi h7))
  refine ⟨f0, hf0, rfl, ?_, ?_⟩
  · intro hng g hg hgf
    rw [re_S_nx hc, re_S_nx hc, hSo, hSn, Bool.true_and, Bool.true_and]
    unfold re_st
    rw [if_pos hng, if_pos hng, hh g hgf, hba, re_ft_c (hne g hgf) ⟨rfl, rfl, rfl⟩]
  · intro hng
    constructor
    · intro hft
      rw [re_S_nx hc, re_S_nx hc, hSo, hSn, Bool.true_and, Bool.true_and]
      unfold re_st
      rw [if_neg hng, if_neg hng]
      rw [hba] at hft ⊢
      have E : re_any p' kd' fa' fb' wk wa wb (re_ba kd fa fb wk wa wb r code L) (r * 3 + L) = re_any p kd fa fb wk wa wb (re_ba kd fa fb wk wa wb r code L) (r * 3 + L) := by
        refine re_any_c (fun g hg => ?_)
        by_cases e : g = f0
        · subst e
          rw [hft, Bool.and_false]
          cases e2 : re_h p g with
          | false => rw [Bool.false_and]
          | true => rw [← re_ft_c (hr e2) ⟨rfl, rfl, rfl⟩, hft]; rfl
        · rw [hh g e, re_ft_c (hne g e) ⟨rfl, rfl, rfl⟩]
      rw [E]
    · intro hft had'
      rw [re_S_nx hc, hSn, Bool.true_and]
      unfold re_st
      rw [if_neg hng, re_any_t hf0 (had had') hft]
      rfl
end
section
/-! ===== the small methods ===== -/
theorem re_fill {f s : Nat → Int32} {i k : Nat} {x : Int32} (hk : k = i) (h : ∀ j, j < i → s j = f j) (hx : x = f i) : ∀ j, j < i + 1 → upd s k x j = f j := by
  intro j hj
  rw [hk]
  by_cases e : j = i
  · rw [e, pk_us, hx]
  · rw [pk_un e]
    exact h j (by omega)
theorem re_has {post : Int32 → Prop} {p : Int32} {kd fa fb sz wk wa wb ng : Nat → Int32} {w q : Nat → Int64} {bd tn : Nat → Int32} {f : Nat} (hf : f < 7) (H : post (re_i (re_h p f))) : wpX_has post (p, kd, fa, fb, sz, wk, wa, wb, ng, w, q, bd, tn) (nI f) := by
  refine br_f (nI_pos (by omega)) (br_f (nI_ge (b := 7) hf (by decide)) ?_)
  cases e : re_h p f with
  | false =>
    rw [e] at H
    exact br_t ((re_hb p (by omega)).mpr e) H
  | true =>
    rw [e] at H
    exact br_f (fun z => absurd (((re_hb p (by omega)).mp z).symm.trans e) (by decide)) H
theorem re_codes {post : Int32 → Prop} {L : Nat} (hL : L < 4) (H : post (nI (8 ^ L))) : wpX_codes post () (nI L) := by
  unfold wpX_codes
  rw [re_cdI L hL]
  exact H
theorem re_word {post : Int32 → Prop} {r L c : Nat} (hc : c < 512) (H : post (nI (r * 11 + L + c / 64))) : wpX_wordOf post () (nI r) (nI L) (nI c) := by
  unfold wpX_wordOf
  have e : nI r * 11 + nI L + nI (c / 2 ^ 6) = nI (r * 11 + L + c / 2 ^ 6) := by
    show nI r * nI 11 + nI L + nI (c / 2 ^ 6) = _
    rw [pk_mul, nI_add, nI_add]
  rw [pk_shrN (by omega) ((6 : Int32) &&& 31) 6 (by decide), e]
  exact H
theorem re_isIn {post : Int32 → Prop} {p : Int32} {kd fa fb sz wk wa wb ng : Nat → Int32} {w q : Nat → Int64} {bd tn : Nat → Int32} {r L c : Nat} (hr : r < 3) (hL : L ≤ 3) (hc : c < 8 ^ L) (H : post (re_i (re_b w r L c))) : wpX_isIn post (p, kd, fa, fb, sz, wk, wa, wb, ng, w, q, bd, tn) (nI r) (nI L) (nI c) := by
  have g := re_rng hL hc
  unfold wpX_isIn
  refine re_word g.1 ?_
  refine ⟨pk_in (r * 11 + L + c / 64) 33 (by omega), ?_⟩
  rw [nI_clamp (show r * 11 + L + c / 64 < 2 ^ 31 by omega), pk_andN (show c < 2 ^ 32 by omega) (m := 63) 6 (by decide)]
  have t := re_tst (w := w (r * 11 + L + c / 64)) (Nat.mod_lt c (show 0 < 64 by decide)) (re_cu (c % 64) (Nat.mod_lt c (by decide)))
  cases e : re_b w r L c with
  | false =>
    rw [e] at H
    exact br_t (t.mpr e) H
  | true =>
    rw [e] at H
    exact br_f (fun z => absurd ((t.mp z).symm.trans e) (by decide)) H
theorem re_wasIn {post : Int32 → Prop} {p : Int32} {kd fa fb sz wk wa wb ng : Nat → Int32} {w q : Nat → Int64} {bd tn : Nat → Int32} {r L c : Nat} (hr : r < 3) (hL : L ≤ 3) (hc : c < 8 ^ L) (H : post (re_i (re_b q r L c))) : wpX_wasIn post (p, kd, fa, fb, sz, wk, wa, wb, ng, w, q, bd, tn) (nI r) (nI L) (nI c) := by
  have g := re_rng hL hc
  unfold wpX_wasIn
  refine re_word g.1 ?_
  refine ⟨pk_in (r * 11 + L + c / 64) 33 (by omega), ?_⟩
  rw [nI_clamp (show r * 11 + L + c / 64 < 2 ^ 31 by omega), pk_andN (show c < 2 ^ 32 by omega) (m := 63) 6 (by decide)]
  have t := re_tst (w := q (r * 11 + L + c / 64)) (Nat.mod_lt c (show 0 < 64 by decide)) (re_cu (c % 64) (Nat.mod_lt c (by decide)))
  cases e : re_b q r L c with
  | false =>
    rw [e] at H
    exact br_t (t.mpr e) H
  | true =>
    rw [e] at H
    exact br_f (fun z => absurd ((t.mp z).symm.trans e) (by decide)) H
theorem re_put {post : St1 → Prop} {p : Int32} {kd fa fb sz wk wa wb ng : Nat → Int32} {w q : Nat → Int64} {bd tn : Nat → Int32} {r L c : Nat} (hr : r < 3) (hL : L ≤ 3) (hc : c < 8 ^ L) (H : post (p, kd, fa, fb, sz, wk, wa, wb, ng, re_pt w r L c, q, bd, tn)) : wpX_put post (p, kd, fa, fb, sz, wk, wa, wb, ng, w, q, bd, tn) (nI r) (nI L) (nI c) := by
  have g := re_rng hL hc
  unfold wpX_put
  refine re_word g.1 ?_
  refine ⟨pk_in (r * 11 + L + c / 64) 33 (by omega), pk_in (r * 11 + L + c / 64) 33 (by omega), ?_⟩
  rw [nI_clamp (show r * 11 + L + c / 64 < 2 ^ 31 by omega), pk_andN (show c < 2 ^ 32 by omega) (m := 63) 6 (by decide)]
  exact nm_e H
theorem re_m11 {post : Int32 → St1 → Prop} {p : Int32} {kd fa fb sz wk wa wb ng : Nat → Int32} {w q : Nat → Int64} {bd tn : Nat → Int32} {d v : Int32} (H : post (re_i (decide (d = 7 ∨ d = v))) (p, kd, fa, fb, sz, wk, wa, wb, ng, w, q, bd, tn)) : wX_meets_11 post d v p kd fa fb sz wk wa wb ng w q bd tn := by
  by_cases h7 : d = 7
  · rw [decide_eq_true (Or.inl h7)] at H
    exact br_t h7 H
  · by_cases hv : d = v
    · rw [decide_eq_true (Or.inr hv)] at H
      exact br_f h7 (br_t hv H)
    · rw [decide_eq_false (fun z => z.elim h7 hv)] at H
      exact br_f h7 (br_f hv H)
theorem re_meets {post : Int32 → St1 → Prop} {p : Int32} {kd fa fb sz wk wa wb ng : Nat → Int32} {w q : Nat → Int64} {bd tn : Nat → Int32} {d v : Int32} (hd : re_okd d) (H : post (re_i (re_m1 d v tn)) (p, kd, fa, fb, sz, wk, wa, wb, ng, w, q, bd, re_m2 d v tn)) : wpX_meets post (p, kd, fa, fb, sz, wk, wa, wb, ng, w, q, bd, tn) d v := by
  unfold re_m1 re_m2 at H
  by_cases h4 : d < 4
  · rw [if_pos (Or.inl h4), if_pos (Or.inl h4)] at H
    exact br_t h4 (re_m11 H)
  · by_cases h7 : d = 7
    · rw [if_pos (Or.inr h7), if_pos (Or.inr h7)] at H
      exact br_f h4 (br_t h7 (re_m11 H))
    · have g : ¬ (d < 4 ∨ d = 7) := fun z => z.elim h4 h7
      rw [if_neg g, if_neg g] at H
      have hi := hd h4 h7
      refine br_f h4 (br_f h7 (nm_e ⟨hi, ?_⟩))
      by_cases e : tn (d - 4).toNatClampNeg = 4
      · rw [if_pos e, decide_eq_true (Or.inl e)] at H
        exact br_t e ⟨hi, nm_e H⟩
      · rw [if_neg e] at H
        by_cases ev : tn (d - 4).toNatClampNeg = v
        · rw [decide_eq_true (Or.inr ev)] at H
          exact br_f e ⟨hi, br_t ev H⟩
        · rw [decide_eq_false (fun z => z.elim e ev)] at H
          exact br_f e ⟨hi, br_f ev H⟩
theorem re_f94 {post : Int32 → St1 → Prop} {p : Int32} {kd fa fb sz wk wa wb ng : Nat → Int32} {w q : Nat → Int64} {bd tn : Nat → Int32} {x3 : Int32} {g : Bool} (H0 : (g = false ∨ x3 = 0) → post (re_i g) (p, kd, fa, fb, sz, wk, wa, wb, ng, w, q, bd, tn))
    (H1 : g = true → ¬ x3 = 0 → ∀ b', (∀ j, j < 3 → b' j = re_nr tn j) → post 1 (p, kd, fa, fb, sz, wk, wa, wb, ng, w, q, b', tn)) : ∃ n, wX_fits_94 post x3 (re_i g) p n 0 kd fa fb sz wk wa wb ng w q bd tn := by
  cases g with
  | false => exact ⟨1, br_f (show ¬ (3 : Int32) ≤ 0 by decide) (br_t rfl ⟨narrow_b0, H0 (Or.inl rfl)⟩)⟩
  | true =>
    by_cases h : x3 = 0
    · exact ⟨1, br_f (show ¬ (3 : Int32) ≤ 0 by decide) (br_f (show ¬ (1 : Int32) = 0 by decide) (br_t h ⟨narrow_b1, H0 (Or.inr h)⟩))⟩
    · exact pk_loop (fun n i s => wX_fits_94 post x3 1 p n (nI i) kd fa fb sz wk wa wb ng w q s tn) (fun i s => ∀ j, j < i → s j = re_nr tn j) 3 0 bd (by omega) (fun j hj => absurd hj (by omega))
        (fun n s hs => pk_le 3 3 (fun _ => ⟨narrow_b1, H1 rfl h s hs⟩) (fun z => absurd z (by omega)))
        (fun n i s hi hs hw => pk_le 3 i (fun z => absurd z (by omega)) (fun _ => br_f (show ¬ (1 : Int32) = 0 by decide) (br_f h ⟨pk_in i 3 hi, pk_in i 3 hi, nm_e (nm_r (nI_1 i) (hw _ (re_fill (nI_clamp (by omega)) hs (by rw [nI_clamp (by omega)]; rfl))))⟩)))
theorem re_fits {post : Int32 → St1 → Prop} {p : Int32} {kd fa fb sz wk wa wb ng : Nat → Int32} {w q : Nat → Int64} {bd tn : Nat → Int32} {β : Nat → Int32} {c f : Nat} {x3 : Int32} (hE : ∀ j, j < 3 → bd j = β j) (hc : c < 9) (hf : f < 7) (ha : re_okd (wa c)) (hb : re_okd (wb c))
    (H : ∀ b' t', (x3 = 0 → b' = bd) → (¬ x3 = 0 → ∀ j, j < 3 → b' j = (if re_ft kd fa fb wk wa wb β c f = true then re_fb kd fa fb wk wa wb β c f else β) j) → post (re_i (re_ft kd fa fb wk wa wb β c f)) (p, kd, fa, fb, sz, wk, wa, wb, ng, w, q, b', t')) : wpX_fits post (p, kd, fa, fb, sz, wk, wa, wb, ng, w, q, bd, tn) (nI c) (nI f) x3 := by
  have cc := nI_clamp (show c < 2 ^ 31 by omega)
  have cf := nI_clamp (show f < 2 ^ 31 by omega)
  have HF : re_ft kd fa fb wk wa wb β c f = false → ∀ t', post 0 (p, kd, fa, fb, sz, wk, wa, wb, ng, w, q, bd, t') := by
    intro e t'
    have h := H bd t' (fun _ => rfl) (fun _ j hj => by rw [if_neg (by rw [e]; decide)]; exact hE j hj)
    rw [e] at h
    exact h
  unfold wpX_fits
  refine ⟨pk_in f 7 hf, pk_in c 9 hc, ?_⟩
  rw [cc, cf]
  by_cases hk : kd f = wk c
  · refine br_t hk ?_
    refine pk_loop (fun n i s => wX_fits_20 post (nI c) (nI f) x3 p n (nI i) kd fa fb sz wk wa wb ng w q bd s) (fun i s => ∀ j, j < i → s j = re_nr bd j) 3 0 tn (by omega) (fun j hj => absurd hj (by omega)) ?_ ?_
    · intro n s hs
      refine pk_le 3 3 (fun _ => ⟨pk_in c 9 hc, pk_in f 7 hf, ?_⟩) (fun z => absurd z (by omega))
      rw [cc, cf]
      have hs' : ∀ j, j < 3 → s j = re_nr β j := by
        intro j hj
        rw [hs j hj]
        unfold re_nr
        rw [hE j hj]
      have e1 := re_m1_c (v := fa f) ha hs'
      have e2 := re_m2_c (v := fa f) ha hs'
      have e3 := re_m1_c (v := fb f) hb e2
      have e4 := re_m2_c (v := fb f) hb e2
      refine re_meets ha ?_
      refine re_br (fun h1 => ?_) (fun h1 => ⟨pk_in c 9 hc, pk_in f 7 hf, ?_⟩)
      · have hft : re_ft kd fa fb wk wa wb β c f = false := by unfold re_ft; rw [← e1, h1, Bool.false_and, Bool.and_false]
        exact re_f94 (g := false) (fun _ => HF hft _) (fun z => absurd z (by decide))
      · refine re_meets hb ?_
        refine re_br (fun h2 => ?_) (fun h2 => ?_)
        · have hft : re_ft kd fa fb wk wa wb β c f = false := by unfold re_ft; rw [← e3, h2, Bool.and_false, Bool.and_false]
          exact re_f94 (g := false) (fun _ => HF hft _) (fun z => absurd z (by decide))
        · have hft : re_ft kd fa fb wk wa wb β c f = true := by unfold re_ft; rw [← e1, ← e3, h1, h2, decide_eq_true hk]; rfl
          refine re_f94 (g := true) (fun z => ?_) (fun _ hx b' hb' => ?_)
          · have hx : x3 = 0 := z.elim (fun y => absurd y (by decide)) id
            have h := H bd (re_m2 (wb c) (fb f) (re_m2 (wa c) (fa f) s)) (fun _ => rfl) (fun y => absurd hx y)
            rw [hft] at h
            exact h
          · have h := H b' (re_m2 (wb c) (fb f) (re_m2 (wa c) (fa f) s)) (fun y => absurd y hx) (fun _ j hj => by
              rw [if_pos hft, hb' j hj]
              unfold re_fb
              show vp_nar .byte _ = vp_nar .byte _
              rw [e4 j hj])
            rw [hft] at h
            exact h
    · intro n i s hi hs hw
      exact pk_le 3 i (fun z => absurd z (by omega)) (fun _ => ⟨pk_in i 3 hi, pk_in i 3 hi, nm_e (nm_r (nI_1 i) (hw _ (re_fill (nI_clamp (by omega)) hs (by rw [nI_clamp (by omega)]; rfl))))⟩)
  · have hft : re_ft kd fa fb wk wa wb β c f = false := by unfold re_ft; rw [decide_eq_false hk, Bool.false_and]
    exact br_f hk (HF hft tn)
theorem re_ba_7 {kd fa fb wk wa wb : Nat → Int32} {r code i : Nat} (h : re_dg code i = 7) : re_ba kd fa fb wk wa wb r code (i + 1) = re_ba kd fa fb wk wa wb r code i := if_pos h
theorem re_ba_n {kd fa fb wk wa wb : Nat → Int32} {r code i : Nat} (h : ¬ re_dg code i = 7) : re_ba kd fa fb wk wa wb r code (i + 1) =
    (if re_ft kd fa fb wk wa wb (re_ba kd fa fb wk wa wb r code i) (r * 3 + i) (re_dg code i) = true then re_fb kd fa fb wk wa wb (re_ba kd fa fb wk wa wb r code i) (r * 3 + i) (re_dg code i) else re_ba kd fa fb wk wa wb r code i) := if_neg h
theorem re_cell (r i : Nat) : nI r * 3 + nI i = nI (r * 3 + i) := by
  show nI r * nI 3 + nI i = _
  rw [pk_mul, nI_add]
theorem re_bind {post : St1 → Prop} {p : Int32} {kd fa fb sz wk wa wb ng : Nat → Int32} {w q : Nat → Int64} {bd tn : Nat → Int32} {r L code : Nat} (hr : r < 3) (hL : L ≤ 3) (hc : code < 512) (hd : ∀ c, c < 9 → re_okd (wa c) ∧ re_okd (wb c))
    (H : ∀ b' t', (∀ j, j < 3 → b' j = re_ba kd fa fb wk wa wb r code L j) → post (p, kd, fa, fb, sz, wk, wa, wb, ng, w, q, b', t')) : wpX_bindAlong post (p, kd, fa, fb, sz, wk, wa, wb, ng, w, q, bd, tn) (nI r) (nI L) (nI code) := by
  have L2 : ∀ b, (∀ j, j < 3 → b j = 4) → ∃ n, wX_bindAlong_26 post (nI r) (nI L) (nI code) n 0 p kd fa fb sz wk wa wb ng w q b tn := by
    intro b hb
    refine pk_loop (σ := (Nat → Int32) × (Nat → Int32)) (fun n i s => wX_bindAlong_26 post (nI r) (nI L) (nI code) n (nI i) p kd fa fb sz wk wa wb ng w q s.1 s.2) (fun i s => ∀ j, j < 3 → s.1 j = re_ba kd fa fb wk wa wb r code i j) L 0 (b, tn) (by omega) hb ?_ ?_
    · intro n s hs
      exact pk_le L L (fun _ => H s.1 s.2 hs) (fun z => absurd z (by omega))
    · intro n i s hi hs hw
      have hdg : re_dg code i < 8 := Nat.mod_lt _ (by decide)
      refine pk_le L i (fun z => absurd z (by omega)) (fun _ => nm_r (re_dgI i (by omega) code hc) ?_)
      refine pk_eq (re_dg code i) 7 (fun z => nm_r (nI_1 i) (hw s ?_)) (fun z => ?_)
      · intro j hj
        rw [hs j hj, re_ba_7 z]
      · rw [re_cell]
        refine re_fits hs (by omega) (by omega) (hd _ (by omega)).1 (hd _ (by omega)).2 ?_
        intro b' t' _ h2
        refine nm_r (nI_1 i) (hw (b', t') ?_)
        intro j hj
        show b' j = _
        rw [h2 (by decide) j hj, re_ba_n z]
  unfold wpX_bindAlong
  exact pk_loop (fun n i s => wX_bindAlong_3 post (nI r) (nI L) (nI code) p n (nI i) kd fa fb sz wk wa wb ng w q s tn) (fun i s => ∀ j, j < i → s j = (4 : Int32)) 3 0 bd (by omega) (fun j hj => absurd hj (by omega))
    (fun n s hs => pk_le 3 3 (fun _ => L2 s hs) (fun z => absurd z (by omega)))
    (fun n i s hi hs hw => pk_le 3 i (fun z => absurd z (by omega)) (fun _ => ⟨pk_in i 3 hi, nm_e (nm_r (nI_1 i) (hw _ (re_fill (f := fun _ => 4) (nI_clamp (by omega)) hs rfl)))⟩))
theorem re_anyF {post : Int32 → St1 → Prop} {p : Int32} {kd fa fb sz wk wa wb ng : Nat → Int32} {w q : Nat → Int64} {bd tn : Nat → Int32} {β : Nat → Int32} {c : Nat} (hE : ∀ j, j < 3 → bd j = β j) (hc : c < 9) (ha : re_okd (wa c)) (hb : re_okd (wb c))
    (H : ∀ t', post (re_i (re_any p kd fa fb wk wa wb β c)) (p, kd, fa, fb, sz, wk, wa, wb, ng, w, q, bd, t')) : wpX_anyFits post (p, kd, fa, fb, sz, wk, wa, wb, ng, w, q, bd, tn) (nI c) := by
  unfold wpX_anyFits
  refine pk_loop (fun n i s => wX_anyFits_2 post (nI c) n (nI i) p kd fa fb sz wk wa wb ng w q bd s) (fun i _ => ∀ g, g < i → (re_h p g && re_ft kd fa fb wk wa wb β c g) = false) 7 0 tn (by omega) (fun j hj => absurd hj (by omega)) ?_ ?_
  · intro n s hs
    refine pk_le 7 7 (fun _ => ?_) (fun z => absurd z (by omega))
    have h := H s
    rw [re_any_f hs] at h
    exact h
  · intro n i s hi hs hw
    refine pk_le 7 i (fun z => absurd z (by omega)) (fun _ => re_has hi (re_br (fun h1 => nm_r (nI_1 i) (hw s (lt_s hs (by rw [h1]; rfl)))) (fun h1 => ?_)))
    refine re_fits hE hc hi ha hb (fun b' t' e _ => ?_)
    have e' := e rfl
    subst e'
    refine re_br (fun h2 => nm_r (nI_1 i) (hw t' (lt_s hs (by rw [h2, Bool.and_false])))) (fun h2 => ?_)
    have h := H t'
    rw [re_any_t hi h1 h2] at h
    exact h
end
section
/-! ===== extend: what one match goes on to ===== -/
theorem re_oc {a : Bool} {P Q : Prop} [Decidable P] [Decidable Q] (h : P ↔ Q) : (a || decide P) = (a || decide Q) := by rw [decide_eq_decide.mpr h]
theorem re_oo {a : Bool} {P Q R : Prop} [Decidable P] [Decidable Q] [Decidable R] (h : P ∨ Q ↔ R) : ((a || decide P) || decide Q) = (a || decide R) := by
  rw [Bool.or_assoc, ← Bool.decide_or, decide_eq_decide.mpr h]
theorem re_of {a : Bool} {P : Prop} [Decidable P] (h : ¬ P) : (a || decide P) = a := by rw [decide_eq_false h, Bool.or_false]
theorem re_n95 {post : St1 → Prop} {p : Int32} {kd fa fb sz wk wa wb ng : Nat → Int32} {w q : Nat → Int64} {bd tn : Nat → Int32} {r L c : Nat} {x : Bool} (hr : r < 3) (hL : L < 3) (hc : c < 8 ^ (L + 1)) (H : post (p, kd, fa, fb, sz, wk, wa, wb, ng, if x = true then re_pt w r (L + 1) c else w, q, bd, tn)) :
    wX_extendNegated_95 post (nI L) (nI r) (nI c) (re_i x) p kd fa fb sz wk wa wb ng w q bd tn := by
  unfold wX_extendNegated_95
  rw [nI_1]
  refine re_br (fun h => ?_) (fun h => re_put hr (by omega) hc ?_)
  · rw [if_neg (by rw [h]; decide)] at H
    exact H
  · rw [if_pos h] at H
    exact H
theorem re_n80 {post : St1 → Prop} {p : Int32} {kd fa fb sz wk wa wb ng : Nat → Int32} {w q : Nat → Int64} {bd tn : Nat → Int32} {r L c : Nat} {β : Nat → Int32} (hr : r < 3) (hL : L < 3) (hc : c < 8 ^ (L + 1)) (hE : ∀ j, j < 3 → bd j = β j) (hd : ∀ c, c < 9 → re_okd (wa c) ∧ re_okd (wb c))
    (H : ∀ t', post (p, kd, fa, fb, sz, wk, wa, wb, ng, if (!re_any p kd fa fb wk wa wb β (r * 3 + L)) = true then re_pt w r (L + 1) c else w, q, bd, t')) :
    wX_extendNegated_80 post (nI (r * 3 + L)) (nI L) (nI r) (nI c) p kd fa fb sz wk wa wb ng w q bd tn := by
  unfold wX_extendNegated_80
  refine re_anyF hE (by omega) (hd _ (by omega)).1 (hd _ (by omega)).2 (fun t' => ?_)
  have h := H t'
  refine re_br (fun e => ?_) (fun e => ?_)
  · rw [e] at h
    exact re_n95 (x := true) hr hL hc h
  · rw [e] at h
    exact re_n95 (x := false) hr hL hc h
theorem re_extN {post : St1 → Prop} {p : Int32} {kd fa fb sz wk wa wb ng : Nat → Int32} {w q : Nat → Int64} {bd tn : Nat → Int32} {r L code : Nat} {o : Bool} {f ad : Int32} {β : Nat → Int32} (hr : r < 3) (hL : L < 3) (hc : code < 8 ^ L) (hE : ∀ j, j < 3 → bd j = β j)
    (hd : ∀ c, c < 9 → re_okd (wa c) ∧ re_okd (wb c)) (x : Bool) (hx : x = !re_any p kd fa fb wk wa wb β (r * 3 + L))
    (h1 : o = true → ∃ f0, f0 < 7 ∧ f = nI f0 ∧ (re_ft kd fa fb wk wa wb β (r * 3 + L) f0 = false → re_b q r (L + 1) (code + 7 * 8 ^ L) = x) ∧ (re_ft kd fa fb wk wa wb β (r * 3 + L) f0 = true → ¬ ad = 0 → x = false))
    (H : ∀ t', post (p, kd, fa, fb, sz, wk, wa, wb, ng, if x = true then re_pt w r (L + 1) (code + 7 * 8 ^ L) else w, q, bd, t')) : wpX_extendNegated post (p, kd, fa, fb, sz, wk, wa, wb, ng, w, q, bd, tn) (nI (r * 3 + L)) (nI code) (nI L) (re_i o) f ad := by
  subst hx
  have ed : nI (r * 3 + L) / 3 = nI r := by
    show nI (r * 3 + L) / nI 3 = _
    rw [pk_div (by omega) (by decide) (by decide), show (r * 3 + L) / 3 = r by omega]
  have en := re_nxI L hL code hc 7 (by decide)
  have hlt := re_nx_lt hc (show 7 < 8 by decide)
  have N80 : ∀ t, wX_extendNegated_80 post (nI (r * 3 + L)) (nI L) (nI r) (nI (code + 7 * 8 ^ L)) p kd fa fb sz wk wa wb ng w q bd t := fun t => re_n80 hr hL hlt hE hd H
  unfold wpX_extendNegated
  refine ⟨by decide, nm_r ed (nm_r en ?_)⟩
  cases o with
  | false => exact br_t rfl (br_t rfl (br_t rfl (N80 tn)))
  | true =>
    obtain ⟨f0, hf0, rfl, hA, hB⟩ := h1 rfl
    have N39 : ∀ z, re_b q r (L + 1) (code + 7 * 8 ^ L) = z → wX_extendNegated_39 post (nI (r * 3 + L)) (nI L) 1 (nI f0) ad (nI r) (nI (code + 7 * 8 ^ L)) (re_i z) p kd fa fb sz wk wa wb ng w q bd tn := by
      intro z hz
      refine br_f (show ¬ (1 : Int32) = 0 by decide) ?_
      refine re_fits hE (by omega) hf0 (hd _ (by omega)).1 (hd _ (by omega)).2 (fun b' t' e _ => ?_)
      have e' := e rfl
      subst e'
      have h := H t'
      refine re_br (fun hf => re_n95 hr hL hlt ?_) (fun hf => br_f (show ¬ (1 : Int32) = 0 by decide) (br_c (fun ha => N80 t') (fun ha => re_n95 (x := false) hr hL hlt ?_)))
      · rw [← hz, hA hf]
        exact h
      · rw [hB hf ha] at h
        exact h
    refine br_f (show ¬ (1 : Int32) = 0 by decide) ?_
    rw [nI_1]
    exact re_wasIn hr (by omega) hlt (re_br (fun hw => N39 false hw) (fun hw => N39 true hw))
theorem re_e126 {post : St1 → Prop} {J : Int32 → Int32 → (Nat → Int32) → (Nat → Int32) → (Nat → Int32) → (Nat → Int32) → (Nat → Int32) → (Nat → Int32) → (Nat → Int32) → (Nat → Int32) → (Nat → Int64) → (Nat → Int64) → (Nat → Int32) → (Nat → Int32) → Prop}
    {p : Int32} {kd fa fb sz wk wa wb ng : Nat → Int32} {w q : Nat → Int64} {bd tn : Nat → Int32} {r L g cl c : Nat} {x3 x4 x7 : Int32} {β : Nat → Int32} {k l : Bool} (hr : r < 3) (hL : L < 3) (hc : c < 8 ^ (L + 1)) (hg : g < 7) (hcl : cl < 9) (hE : ∀ j, j < 3 → bd j = β j) (hd : ∀ c, c < 9 → re_okd (wa c) ∧ re_okd (wb c))
    (H : ∀ t', J (nI (g + 1)) p kd fa fb sz wk wa wb ng (if (k || (l && re_ft kd fa fb wk wa wb β cl g)) = true then re_pt w r (L + 1) c else w) q bd t') :
    wX_extend_126 post J (nI r) (nI L) x3 x4 (nI cl) x7 (nI g) (nI c) (re_i k) (re_i l) p kd fa fb sz wk wa wb ng w q bd tn := by
  have P150 : ∀ t, (k || (l && re_ft kd fa fb wk wa wb β cl g)) = true → wX_extend_150 post J (nI r) (nI L) x3 x4 (nI cl) x7 (nI g) (nI c) p kd fa fb sz wk wa wb ng w q bd t := by
    intro t e
    have h := H t
    rw [if_pos e] at h
    unfold wX_extend_150
    rw [nI_1 L]
    exact re_put hr (by omega) hc (nm_r (nI_1 g) h)
  unfold wX_extend_126
  refine re_br (fun hk => re_br (fun hl => nm_r (nI_1 g) ?_) (fun hl => ?_)) (fun hk => P150 tn (by rw [hk]; rfl))
  · have h := H tn
    rw [if_neg (by simp [hk, hl])] at h
    exact h
  · refine re_fits hE hcl hg (hd _ hcl).1 (hd _ hcl).2 (fun b' t' e _ => ?_)
    have e' := e rfl
    subst e'
    refine re_br (fun hf => nm_r (nI_1 g) ?_) (fun hf => P150 t' (by simp [hl, hf]))
    have h := H t'
    rw [if_neg (by simp [hk, hf])] at h
    exact h
theorem re_e98 {post : St1 → Prop} {J : Int32 → Int32 → (Nat → Int32) → (Nat → Int32) → (Nat → Int32) → (Nat → Int32) → (Nat → Int32) → (Nat → Int32) → (Nat → Int32) → (Nat → Int32) → (Nat → Int64) → (Nat → Int64) → (Nat → Int32) → (Nat → Int32) → Prop}
    {p : Int32} {kd fa fb sz wk wa wb ng : Nat → Int32} {w q : Nat → Int64} {bd tn : Nat → Int32} {r L g cl c : Nat} {x3 f : Int32} {β : Nat → Int32} {k o : Bool} (hr : r < 3) (hL : L < 3) (hc : c < 8 ^ (L + 1)) (hg : g < 7) (hcl : cl < 9) (hE : ∀ j, j < 3 → bd j = β j) (hd : ∀ c, c < 9 → re_okd (wa c) ∧ re_okd (wb c))
    (H : ∀ t', J (nI (g + 1)) p kd fa fb sz wk wa wb ng (if (k || ((re_h p g && (!o || decide (nI g = f))) && re_ft kd fa fb wk wa wb β cl g)) = true then re_pt w r (L + 1) c else w) q bd t') :
    wX_extend_98 post J (nI r) (nI L) x3 f (nI cl) (re_i o) (nI g) (nI c) (re_i k) p kd fa fb sz wk wa wb ng w q bd tn := by
  have P : ∀ l, (re_h p g && (!o || decide (nI g = f))) = l → wX_extend_126 post J (nI r) (nI L) x3 f (nI cl) (re_i o) (nI g) (nI c) (re_i k) (re_i l) p kd fa fb sz wk wa wb ng w q bd tn := by
    intro l e
    rw [e] at H
    exact re_e126 hr hL hc hg hcl hE hd H
  unfold wX_extend_98
  refine re_has hg (re_br (fun h => ?_) (fun h => re_br (fun ho => ?_) (fun ho => br_c (fun e => ?_) (fun e => ?_))))
  · exact P false (by rw [h]; rfl)
  · exact P true (by rw [h, ho]; rfl)
  · exact P true (by rw [h, ho, decide_eq_true e]; rfl)
  · exact P false (by rw [h, ho, decide_eq_false e]; rfl)
theorem re_e51 {post : St1 → Prop} {p : Int32} {kd fa fb sz wk wa wb ng : Nat → Int32} {w q : Nat → Int64} {bd tn : Nat → Int32} {r L code : Nat} {o : Bool} {f : Int32} {β : Nat → Int32} (hr : r < 3) (hL : L < 3) (hc : code < 8 ^ L) (hE : ∀ j, j < 3 → bd j = β j)
    (hd : ∀ c, c < 9 → re_okd (wa c) ∧ re_okd (wb c)) (V : Nat → Bool)
    (hV : ∀ g, g < 7 → ((o && (!decide (nI g = f) && re_b q r (L + 1) (code + g * 8 ^ L))) || ((re_h p g && (!o || decide (nI g = f))) && re_ft kd fa fb wk wa wb β (r * 3 + L) g)) = V g)
    (H : ∀ w' t', (∀ r' L' c', r' < 3 → L' ≤ 3 → c' < 8 ^ L' → re_b w' r' L' c' = (re_b w r' L' c' || decide (r' = r ∧ L' = L + 1 ∧ c' % 8 ^ L = code ∧ c' / 8 ^ L < 7 ∧ V (c' / 8 ^ L) = true))) → post (p, kd, fa, fb, sz, wk, wa, wb, ng, w', q, bd, t')) :
    ∃ n, wX_extend_51 post (nI r) (nI L) (nI code) f (nI (r * 3 + L)) (re_i o) n 0 p kd fa fb sz wk wa wb ng w q bd tn := by
  refine pk_loop (σ := (Nat → Int64) × (Nat → Int32)) (fun n i s => wX_extend_51 post (nI r) (nI L) (nI code) f (nI (r * 3 + L)) (re_i o) n (nI i) p kd fa fb sz wk wa wb ng s.1 q bd s.2)
    (fun i s => ∀ r' L' c', r' < 3 → L' ≤ 3 → c' < 8 ^ L' → re_b s.1 r' L' c' = (re_b w r' L' c' || decide (r' = r ∧ L' = L + 1 ∧ c' % 8 ^ L = code ∧ c' / 8 ^ L < i ∧ V (c' / 8 ^ L) = true)))
    7 0 (w, tn) (by omega) ?_ ?_ ?_
  · intro r' L' c' _ _ _
    exact (re_of (fun z => absurd z.2.2.2.1 (Nat.not_lt_zero _))).symm
  · intro n s hs
    exact pk_le 7 7 (fun _ => H s.1 s.2 hs) (fun z => absurd z (by omega))
  · intro n i s hi hs hw
    have hlt := re_nx_lt hc (show i < 8 by omega)
    have inv : ∀ r' L' c', r' < 3 → L' ≤ 3 → c' < 8 ^ L' → re_b (if V i = true then re_pt s.1 r (L + 1) (code + i * 8 ^ L) else s.1) r' L' c' = (re_b w r' L' c' || decide (r' = r ∧ L' = L + 1 ∧ c' % 8 ^ L = code ∧ c' / 8 ^ L < i + 1 ∧ V (c' / 8 ^ L) = true)) := by
      intro r' L' c' h1 h2 h3
      by_cases hv : V i = true
      · rw [if_pos hv, re_b_pt _ hr (by omega) hlt h1 h2 h3, hs r' L' c' h1 h2 h3]
        apply re_oo
        constructor
        · rintro (⟨a, b, d, e, v⟩ | ⟨a, b, d⟩)
          · exact ⟨a, b, d, by omega, v⟩
          · refine ⟨a, b, by rw [d, re_nx_mod hc], by rw [d, re_nx_div hc]; omega, by rw [d, re_nx_div hc]; exact hv⟩
        · rintro ⟨a, b, d, e, v⟩
          by_cases z : c' / 8 ^ L < i
          · exact Or.inl ⟨a, b, d, z, v⟩
          · exact Or.inr ⟨a, b, re_nx_eq d (by omega)⟩
      · rw [if_neg hv, hs r' L' c' h1 h2 h3]
        apply re_oc
        constructor
        · rintro ⟨a, b, d, e, v⟩
          exact ⟨a, b, d, by omega, v⟩
        · rintro ⟨a, b, d, e, v⟩
          refine ⟨a, b, d, ?_, v⟩
          rcases Nat.lt_or_ge (c' / 8 ^ L) i with z | z
          · exact z
          · rw [show c' / 8 ^ L = i by omega] at v
            exact absurd v hv
    have P : ∀ k, (o && (!decide (nI i = f) && re_b q r (L + 1) (code + i * 8 ^ L))) = k → wX_extend_98 post (wX_extend_51 post (nI r) (nI L) (nI code) f (nI (r * 3 + L)) (re_i o) n) (nI r) (nI L) (nI code) f (nI (r * 3 + L)) (re_i o) (nI i) (nI (code + i * 8 ^ L)) (re_i k) p kd fa fb sz wk wa wb ng s.1 q bd s.2 := by
      intro k e
      refine re_e98 hr hL hlt hi (by omega) hE hd (fun t' => ?_)
      rw [← e, hV i hi]
      exact hw (_, t') inv
    refine pk_le 7 i (fun z => absurd z (by omega)) (fun _ => nm_r (re_nxI L hL code hc i (by omega)) ?_)
    refine re_br (fun ho => P false (by rw [ho]; rfl)) (fun ho => br_c (fun e => P false (by rw [ho, decide_eq_true e]; rfl)) (fun e => ?_))
    rw [nI_1 L]
    exact re_wasIn hr (by omega) hlt (re_br (fun hw => P false (by rw [ho, decide_eq_false e, hw]; rfl)) (fun hw => P true (by rw [ho, decide_eq_false e, hw]; rfl)))
theorem re_ext {post : St1 → Prop} {p : Int32} {kd fa fb sz wk wa wb ng : Nat → Int32} {w q : Nat → Int64} {bd tn : Nat → Int32} {r L code n : Nat} {f ad : Int32} {So : Nat → Nat → Bool} (hr : r < 3) (hn : n ≤ 3) (hL : L < n) (hc : code < 8 ^ L) (hd : ∀ c, c < 9 → re_okd (wa c) ∧ re_okd (wb c))
    (hq : ∀ L', L' ≤ n → ∀ c, c < 8 ^ L' → re_b q r L' c = So L' c) (hH : re_H p kd fa fb wk wa wb ng r n f ad So) (hS : re_S p kd fa fb wk wa wb ng r L code = true)
    (H : ∀ w' b' t', (∀ r' L' c', r' < 3 → L' ≤ 3 → c' < 8 ^ L' → re_b w' r' L' c' = (re_b w r' L' c' || decide (r' = r ∧ L' = L + 1 ∧ c' % 8 ^ L = code ∧ re_S p kd fa fb wk wa wb ng r (L + 1) c' = true))) → post (p, kd, fa, fb, sz, wk, wa, wb, ng, w', q, b', t')) :
    wpX_extend post (p, kd, fa, fb, sz, wk, wa, wb, ng, w, q, bd, tn) (nI r) (nI L) (nI code) f ad := by
  unfold wpX_extend
  refine nm_r (re_cell r L) ?_
  refine re_wasIn hr (by omega) hc ?_
  refine re_bind hr (by omega) (re_rng (by omega) hc).1 hd (fun b' t' hE => ?_)
  refine ⟨pk_in (r * 3 + L) 9 (by omega), ?_⟩
  rw [nI_clamp (show r * 3 + L < 2 ^ 31 by omega), hq L (by omega) code hc]
  by_cases hng : ng (r * 3 + L) = 0
  · refine br_t hng ?_
    refine re_e51 hr (by omega) hc hE hd (fun g => re_st p kd fa fb wk wa wb ng r L code g) (fun g hg => ?_) (fun w' t'' hw => H w' b' t'' (fun r' L' c' h1 h2 h3 => ?_))
    · have est : re_st p kd fa fb wk wa wb ng r L code g = (re_h p g && re_ft kd fa fb wk wa wb (re_ba kd fa fb wk wa wb r code L) (r * 3 + L) g) := by
        unfold re_st
        rw [if_pos hng, decide_eq_true hg, Bool.true_and]
      cases ho : So L code with
      | false => rw [est, Bool.false_and, Bool.false_or, Bool.not_false, Bool.true_or, Bool.and_true]
      | true =>
        obtain ⟨f0, hf0, rfl, hA, _⟩ := hH L code hL hc ho hS
        rw [hq (L + 1) (by omega) _ (re_nx_lt hc (by omega))]
        by_cases e : g = f0
        · subst e
          rw [est, decide_eq_true rfl, Bool.not_true, Bool.false_and, Bool.and_false, Bool.false_or, Bool.or_true, Bool.and_true]
        · have e' : ¬ nI g = nI f0 := fun z => e ((nI_eq (by omega) (by omega)).mp z)
          rw [hA hng g hg e, re_S_nx hc, hS, decide_eq_false e', Bool.not_false, Bool.true_and, Bool.true_and, Bool.true_and, Bool.not_true, Bool.or_false, Bool.and_false, Bool.false_and, Bool.or_false]
    · rw [hw r' L' c' h1 h2 h3]
      apply re_oc
      constructor
      · rintro ⟨a, b, d, _, v⟩
        refine ⟨a, b, d, ?_⟩
        rw [re_S_s, d, hS, Bool.true_and]
        exact v
      · rintro ⟨a, b, d, v⟩
        rw [re_S_s, d, hS, Bool.true_and] at v
        refine ⟨a, b, d, ?_, v⟩
        unfold re_st at v
        rw [if_pos hng, Bool.and_eq_true] at v
        exact of_decide_eq_true v.1
  · refine br_f hng ?_
    have est : ∀ g, re_st p kd fa fb wk wa wb ng r L code g = (decide (g = 7) && !re_any p kd fa fb wk wa wb (re_ba kd fa fb wk wa wb r code L) (r * 3 + L)) := by
      intro g
      unfold re_st
      rw [if_neg hng]
    refine re_extN hr (by omega) hc hE hd (re_S p kd fa fb wk wa wb ng r (L + 1) (code + 7 * 8 ^ L)) ?_ ?_ (fun t'' => H _ b' t'' (fun r' L' c' h1 h2 h3 => ?_))
    · rw [re_S_nx hc, hS, est, decide_eq_true rfl, Bool.true_and, Bool.true_and]
    · intro ho
      obtain ⟨f0, hf0, e, _, hB⟩ := hH L code hL hc ho hS
      refine ⟨f0, hf0, e, ?_, (hB hng).2⟩
      intro h
      rw [hq (L + 1) (by omega) _ (re_nx_lt hc (by decide))]
      exact (hB hng).1 h
    · have key : (r' = r ∧ L' = L + 1 ∧ c' % 8 ^ L = code ∧ re_S p kd fa fb wk wa wb ng r (L + 1) c' = true) → c' = code + 7 * 8 ^ L := by
        rintro ⟨a, b, d, v⟩
        rw [re_S_s, d, hS, Bool.true_and, est, Bool.and_eq_true] at v
        exact re_nx_eq d (of_decide_eq_true v.1)
      cases hx : re_S p kd fa fb wk wa wb ng r (L + 1) (code + 7 * 8 ^ L) with
      | false =>
        rw [if_neg (by decide)]
        refine (re_of (fun z => ?_)).symm
        have t := z.2.2.2
        rw [key z, hx] at t
        exact absurd t (by decide)
      | true =>
        rw [if_pos rfl, re_b_pt _ hr (by omega) (re_nx_lt hc (by decide)) h1 h2 h3]
        apply re_oc
        constructor
        · rintro ⟨a, b, d⟩
          exact ⟨a, b, by rw [d, re_nx_mod hc], by rw [d]; exact hx⟩
        · intro z
          exact ⟨z.1, z.2.1, key z⟩
end
section
/-! ===== update: the sets of one rule brought up to date ===== -/
theorem re_u106 {post : St1 → Prop} {J : Int32 → Int32 → (Nat → Int32) → (Nat → Int32) → (Nat → Int32) → (Nat → Int32) → (Nat → Int32) → (Nat → Int32) → (Nat → Int32) → (Nat → Int32) → (Nat → Int64) → (Nat → Int64) → (Nat → Int32) → (Nat → Int32) → Prop}
    {p : Int32} {kd fa fb sz wk wa wb ng : Nat → Int32} {w q : Nat → Int64} {bd tn : Nat → Int32} {r L n : Nat} {f ad : Int32} {So : Nat → Nat → Bool} (hr : r < 3) (hn : n ≤ 3) (hL : L < n) (hd : ∀ c, c < 9 → re_okd (wa c) ∧ re_okd (wb c))
    (hq : ∀ L', L' ≤ n → ∀ c, c < 8 ^ L' → re_b q r L' c = So L' c) (hH : re_H p kd fa fb wk wa wb ng r n f ad So) (hS : ∀ c, c < 8 ^ L → re_b w r L c = re_S p kd fa fb wk wa wb ng r L c)
    (H : ∀ w' b' t', (∀ r' L' c', r' < 3 → L' ≤ 3 → c' < 8 ^ L' → re_b w' r' L' c' = (re_b w r' L' c' || decide (r' = r ∧ L' = L + 1 ∧ re_S p kd fa fb wk wa wb ng r (L + 1) c' = true))) → J (nI (L + 1)) p kd fa fb sz wk wa wb ng w' q b' t') :
    ∃ m, wX_update_106 post J (nI r) f ad (nI L) m 0 p kd fa fb sz wk wa wb ng w q bd tn := by
  have h8 := re_p8 (show L ≤ 3 by omega)
  refine pk_loop (σ := (Nat → Int64) × (Nat → Int32) × (Nat → Int32)) (fun m i s => wX_update_106 post J (nI r) f ad (nI L) m (nI i) p kd fa fb sz wk wa wb ng s.1 q s.2.1 s.2.2)
    (fun i s => ∀ r' L' c', r' < 3 → L' ≤ 3 → c' < 8 ^ L' → re_b s.1 r' L' c' = (re_b w r' L' c' || decide (r' = r ∧ L' = L + 1 ∧ c' % 8 ^ L < i ∧ re_S p kd fa fb wk wa wb ng r (L + 1) c' = true)))
    (8 ^ L) 0 (w, bd, tn) (by omega) ?_ ?_ ?_
  · intro r' L' c' _ _ _
    exact (re_of (fun z => absurd z.2.2.1 (Nat.not_lt_zero _))).symm
  · intro m s hs
    rw [wX_update_106]
    refine re_codes (L := L) (by omega) ?_
    refine pk_le (8 ^ L) (8 ^ L) (fun _ => nm_r (nI_1 L) (H s.1 s.2.1 s.2.2 ?_)) (fun z => absurd z (by omega))
    intro r' L' c' h1 h2 h3
    rw [hs r' L' c' h1 h2 h3]
    apply re_oc
    constructor
    · rintro ⟨a, b, _, v⟩
      exact ⟨a, b, v⟩
    · rintro ⟨a, b, v⟩
      exact ⟨a, b, Nat.mod_lt _ h8.2, v⟩
  · intro m i s hi hs hw
    have eS : re_b s.1 r L i = re_S p kd fa fb wk wa wb ng r L i := by
      rw [hs r L i hr (by omega) hi, ← hS i hi]
      exact re_of (fun z => absurd z.2.1 (by omega))
    rw [wX_update_106]
    refine re_codes (L := L) (by omega) ?_
    refine pk_le (8 ^ L) i (fun z => absurd z (by omega)) (fun _ => re_isIn hr (by omega) hi (re_br (fun h => nm_r (nI_1 i) (hw s ?_)) (fun h => ?_)))
    · intro r' L' c' h1 h2 h3
      rw [hs r' L' c' h1 h2 h3]
      apply re_oc
      constructor
      · rintro ⟨a, b, d, v⟩
        exact ⟨a, b, by omega, v⟩
      · rintro ⟨a, b, d, v⟩
        refine ⟨a, b, ?_, v⟩
        rcases Nat.lt_or_ge (c' % 8 ^ L) i with z | z
        · exact z
        · have e : c' % 8 ^ L = i := by omega
          rw [re_S_s, e, ← eS, h, Bool.false_and] at v
          exact absurd v (by decide)
    · rw [eS] at h
      refine re_ext hr hn hL hi hd hq hH h (fun w' b' t' hw' => nm_r (nI_1 i) (hw (w', b', t') ?_))
      intro r' L' c' h1 h2 h3
      show re_b w' r' L' c' = _
      rw [hw' r' L' c' h1 h2 h3, hs r' L' c' h1 h2 h3]
      apply re_oo
      constructor
      · rintro (⟨a, b, d, v⟩ | ⟨a, b, d, v⟩)
        · exact ⟨a, b, by omega, v⟩
        · exact ⟨a, b, by omega, v⟩
      · rintro ⟨a, b, d, v⟩
        by_cases z : c' % 8 ^ L < i
        · exact Or.inl ⟨a, b, z, v⟩
        · exact Or.inr ⟨a, b, by omega, v⟩
theorem re_u92 {post : St1 → Prop} {p : Int32} {kd fa fb sz wk wa wb ng : Nat → Int32} {w q : Nat → Int64} {bd tn : Nat → Int32} {r n : Nat} {f ad : Int32} {So : Nat → Nat → Bool} (hr : r < 3) (hn : n ≤ 3) (hsz : sz r = nI n) (hd : ∀ c, c < 9 → re_okd (wa c) ∧ re_okd (wb c))
    (hq : ∀ L', L' ≤ n → ∀ c, c < 8 ^ L' → re_b q r L' c = So L' c) (hH : re_H p kd fa fb wk wa wb ng r n f ad So)
    (h0 : re_b w r 0 0 = true) (hz : ∀ L c, 1 ≤ L → L ≤ 3 → c < 8 ^ L → re_b w r L c = false)
    (H : ∀ w' b' t', (∀ L, L ≤ n → ∀ c, c < 8 ^ L → re_b w' r L c = re_S p kd fa fb wk wa wb ng r L c) → (∀ r' L c, r' < 3 → r' ≠ r → L ≤ 3 → c < 8 ^ L → re_b w' r' L c = re_b w r' L c) → post (p, kd, fa, fb, sz, wk, wa, wb, ng, w', q, b', t')) :
    ∃ m, wX_update_92 post (nI r) f ad m 0 p kd fa fb sz wk wa wb ng w q bd tn := by
  refine pk_loop (σ := (Nat → Int64) × (Nat → Int32) × (Nat → Int32)) (fun m i s => wX_update_92 post (nI r) f ad m (nI i) p kd fa fb sz wk wa wb ng s.1 q s.2.1 s.2.2)
    (fun i s => (∀ L, L ≤ i → ∀ c, c < 8 ^ L → re_b s.1 r L c = re_S p kd fa fb wk wa wb ng r L c) ∧ (∀ L c, i < L → L ≤ 3 → c < 8 ^ L → re_b s.1 r L c = false) ∧ (∀ r' L c, r' < 3 → r' ≠ r → L ≤ 3 → c < 8 ^ L → re_b s.1 r' L c = re_b w r' L c))
    n 0 (w, bd, tn) (by omega) ?_ ?_ ?_
  · refine ⟨?_, fun L c h1 h2 h3 => hz L c h1 h2 h3, fun r' L c _ _ _ _ => rfl⟩
    intro L hL c hc
    have e : L = 0 := by omega
    subst e
    have e2 : c = 0 := by
      have : c < 1 := hc
      omega
    subst e2
    exact h0
  · intro m s hs
    refine ⟨pk_in r 3 hr, ?_⟩
    rw [nI_clamp (show r < 2 ^ 31 by omega), hsz]
    exact pk_le n n (fun _ => H s.1 s.2.1 s.2.2 hs.1 hs.2.2) (fun z => absurd z (by omega))
  · intro m i s hi hs hw
    refine ⟨pk_in r 3 hr, ?_⟩
    rw [nI_clamp (show r < 2 ^ 31 by omega), hsz]
    refine pk_le n i (fun z => absurd z (by omega)) (fun _ => re_u106 hr hn hi hd hq hH (hs.1 i (by omega)) (fun w' b' t' hw' => hw (w', b', t') ⟨?_, ?_, ?_⟩))
    · intro L hL c hc
      show re_b w' r L c = _
      rw [hw' r L c hr (by omega) hc]
      by_cases e : L ≤ i
      · rw [re_of (fun z => absurd z.2.1 (by omega))]
        exact hs.1 L e c hc
      · have e' : L = i + 1 := by omega
        subst e'
        rw [hs.2.1 (i + 1) c (by omega) (by omega) hc, Bool.false_or]
        cases v : re_S p kd fa fb wk wa wb ng r (i + 1) c with
        | false => exact decide_eq_false (fun z => absurd z.2.2 (by decide))
        | true => exact decide_eq_true ⟨rfl, rfl, rfl⟩
    · intro L c h1 h2 h3
      show re_b w' r L c = _
      rw [hw' r L c hr h2 h3, re_of (fun z => absurd z.2.1 (by omega))]
      exact hs.2.1 L c (by omega) h2 h3
    · intro r' L c h1 h2 h3 h4
      show re_b w' r' L c = _
      rw [hw' r' L c h1 h3 h4, re_of (fun z => absurd z.1 h2)]
      exact hs.2.2 r' L c h1 h2 h3 h4
theorem re_e11 (r i : Nat) : nI r * 11 + nI i = nI (r * 11 + i) := by
  show nI r * nI 11 + nI i = _
  rw [pk_mul, nI_add]
theorem re_u41 {post : St1 → Prop} {J : Int32 → (Nat → Int32) → (Nat → Int32) → (Nat → Int32) → (Nat → Int32) → (Nat → Int32) → (Nat → Int32) → (Nat → Int32) → (Nat → Int32) → (Nat → Int64) → (Nat → Int64) → (Nat → Int32) → (Nat → Int32) → Prop}
    {p : Int32} {kd fa fb sz wk wa wb ng : Nat → Int32} {w q : Nat → Int64} {bd tn : Nat → Int32} {r i : Nat} {x2 x3 : Int32} {z : Int64} (hr : r < 3) (hi : i < 11) (H : J (nI (i + 1)) kd fa fb sz wk wa wb ng (vp_updL w (r * 11 + i) 0) (vp_updL q (r * 11 + i) z) bd tn) :
    wX_update_41 post J (nI r) x2 x3 (nI i) z (nI (r * 11 + i)) p kd fa fb sz wk wa wb ng w q bd tn := by
  unfold wX_update_41
  rw [re_e11, nI_clamp (show r * 11 + i < 2 ^ 31 by omega)]
  exact ⟨pk_in (r * 11 + i) 33 (by omega), nm_e ⟨pk_in (r * 11 + i) 33 (by omega), nm_e (nm_r (nI_1 i) H)⟩⟩
theorem re_one0 : (1 : Int64).toBitVec.getLsbD 0 = true := by decide
theorem re_zer (j : Nat) : (0 : Int64).toBitVec.getLsbD j = false := BitVec.getLsbD_zero
theorem re_upd {post : St1 → Prop} {p : Int32} {kd fa fb sz wk wa wb ng : Nat → Int32} {w q : Nat → Int64} {bd tn : Nat → Int32} {r n : Nat} {f ad : Int32} {So : Nat → Nat → Bool} (hr : r < 3) (hn : n ≤ 3) (hsz : sz r = nI n) (hd : ∀ c, c < 9 → re_okd (wa c) ∧ re_okd (wb c))
    (hH : re_H p kd fa fb wk wa wb ng r n f ad So)
    (hf : (¬ 0 ≤ f ∧ So = fun _ _ => false) ∨ (0 ≤ f ∧ So 0 0 = true ∧ ∀ L, L ≤ n → ∀ c, c < 8 ^ L → re_b w r L c = So L c))
    (H : ∀ w' q' b' t', (∀ L, L ≤ n → ∀ c, c < 8 ^ L → re_b w' r L c = re_S p kd fa fb wk wa wb ng r L c) → (∀ r' L c, r' < 3 → r' ≠ r → L ≤ 3 → c < 8 ^ L → re_b w' r' L c = re_b w r' L c) → post (p, kd, fa, fb, sz, wk, wa, wb, ng, w', q', b', t')) :
    wpX_update post (p, kd, fa, fb, sz, wk, wa, wb, ng, w, q, bd, tn) (nI r) f ad := by
  have e0 : nI r * 11 = nI (r * 11) := by
    show nI r * nI 11 = _
    rw [pk_mul]
  have c0 := nI_clamp (show r * 11 < 2 ^ 31 by omega)
  -- behind the first loop
  have fin : ∀ (w1 q1 : Nat → Int64) (z : Int64), (∀ j, w1 j = if r * 11 ≤ j ∧ j < r * 11 + 11 then 0 else w j) → (∀ j, r * 11 ≤ j → j < r * 11 + 11 → q1 j = if 0 ≤ f then w j else 0) → (z = if 0 ≤ f then 1 else 0) →
      ∃ m, wX_update_92 post (nI r) f ad m 0 p kd fa fb sz wk wa wb ng (vp_updL w1 (r * 11) 1) (vp_updL q1 (r * 11) z) bd tn := by
    intro w1 q1 z hw1 hq1 hz
    refine re_u92 (So := So) hr hn hsz hd ?_ hH ?_ ?_ (fun w' b' t' h1 h2 => H w' _ b' t' h1 ?_)
    · intro L hL c hc
      have g := re_rng (show L ≤ 3 by omega) hc
      unfold re_b vp_updL
      rcases hf with ⟨hf0, hSo⟩ | ⟨hf0, h00, hSo⟩
      · rw [hSo]
        rw [if_neg hf0] at hz
        by_cases e : r * 11 + L + c / 64 = r * 11
        · rw [if_pos e, hz]
          exact re_zer _
        · rw [if_neg e, hq1 _ (by omega) (by omega), if_neg hf0]
          exact re_zer _
      · rw [if_pos hf0] at hz
        by_cases e : r * 11 + L + c / 64 = r * 11
        · have eL : L = 0 := by omega
          subst eL
          have ec : c = 0 := by
            have : c < 1 := hc
            omega
          subst ec
          rw [if_pos e, hz, h00]
          exact re_one0
        · rw [if_neg e, hq1 _ (by omega) (by omega), if_pos hf0]
          exact hSo L hL c hc
    · show (vp_updL w1 (r * 11) 1 (r * 11)).toBitVec.getLsbD 0 = true
      rw [pk_uLs]
      exact re_one0
    · intro L c h1 h2 h3
      have g := re_rng h2 h3
      unfold re_b
      rw [pk_uLn (by omega), hw1, if_pos (by omega)]
      exact re_zer _
    · intro r' L c a1 a2 a3 a4
      have g := re_rng a3 a4
      rw [h2 r' L c a1 a2 a3 a4]
      unfold re_b
      rw [pk_uLn (by omega), hw1, if_neg (by omega)]
  unfold wpX_update
  refine pk_loop (σ := (Nat → Int64) × (Nat → Int64)) (fun m i s => wX_update_3 post (nI r) f ad p m (nI i) kd fa fb sz wk wa wb ng s.1 s.2 bd tn)
    (fun i s => (∀ j, s.1 j = if r * 11 ≤ j ∧ j < r * 11 + i then 0 else w j) ∧ (∀ j, r * 11 ≤ j → j < r * 11 + i → s.2 j = if 0 ≤ f then w j else 0)) 11 0 (w, q) (by omega) ?_ ?_ ?_
  · exact ⟨fun j => by rw [if_neg (by omega)], fun j h1 h2 => by omega⟩
  · intro m s hs
    refine pk_le 11 11 (fun _ => ?_) (fun z => absurd z (by omega))
    rw [e0, c0]
    refine ⟨pk_in (r * 11) 33 (by omega), nm_e (br_c (fun h => ⟨pk_in (r * 11) 33 (by omega), nm_e ?_⟩) (fun h => ⟨pk_in (r * 11) 33 (by omega), nm_e ?_⟩))⟩
    · exact fin s.1 s.2 1 hs.1 hs.2 (by rw [if_pos h])
    · exact fin s.1 s.2 0 hs.1 hs.2 (by rw [if_neg h])
  · intro m i s hi hs hw
    have hs1 : s.1 (r * 11 + i) = w (r * 11 + i) := by rw [hs.1, if_neg (by omega)]
    have P : ∀ z, (z = if 0 ≤ f then w (r * 11 + i) else 0) → wX_update_41 post (wX_update_3 post (nI r) f ad p m) (nI r) f ad (nI i) z (nI (r * 11 + i)) p kd fa fb sz wk wa wb ng s.1 s.2 bd tn := by
      intro z hz
      refine re_u41 hr hi (hw (vp_updL s.1 (r * 11 + i) 0, vp_updL s.2 (r * 11 + i) z) ⟨?_, ?_⟩)
      · intro j
        show vp_updL s.1 (r * 11 + i) 0 j = _
        by_cases e : j = r * 11 + i
        · rw [e, pk_uLs, if_pos (by omega)]
        · rw [pk_uLn e, hs.1]
          by_cases t : r * 11 ≤ j ∧ j < r * 11 + i
          · rw [if_pos t, if_pos (by omega)]
          · rw [if_neg t, if_neg (by omega)]
      · intro j h1 h2
        show vp_updL s.2 (r * 11 + i) z j = _
        by_cases e : j = r * 11 + i
        · rw [e, pk_uLs, hz]
        · rw [pk_uLn e, hs.2 j h1 (by omega)]
    refine pk_le 11 i (fun z => absurd z (by omega)) (fun _ => ?_)
    rw [re_e11, nI_clamp (show r * 11 + i < 2 ^ 31 by omega)]
    exact br_c (fun h => ⟨pk_in (r * 11 + i) 33 (by omega), P _ (by rw [if_pos h, hs1])⟩) (fun h => P _ (by rw [if_neg h]))
end
section
/-! ===== the engine's state, and the methods that change it ===== -/
def re_I (n : Nat → Nat) (p : Int32) (kd fa fb sz wk wa wb ng : Nat → Int32) (w : Nat → Int64) : Prop :=
  (∀ r, r < 3 → n r ≤ 3 ∧ sz r = nI (n r)) ∧ (∀ c, c < 9 → re_okd (wa c) ∧ re_okd (wb c)) ∧ (∀ g, 7 ≤ g → re_h p g = false) ∧
    (∀ r, r < 3 → ∀ L, L ≤ n r → ∀ c, c < 8 ^ L → re_b w r L c = re_S p kd fa fb wk wa wb ng r L c)
theorem re_r26 {post : Int32 → St1 → Prop} {p : Int32} {kd fa fb sz wk wa wb ng : Nat → Int32} {w q : Nat → Int64} {bd tn : Nat → Int32} {n : Nat → Nat} {f0 : Nat} {p0 : Int32} {kd0 fa0 fb0 : Nat → Int32} (hn : ∀ r, r < 3 → n r ≤ 3 ∧ sz r = nI (n r)) (hd : ∀ c, c < 9 → re_okd (wa c) ∧ re_okd (wb c)) (hf0 : f0 < 7)
    (hold : ∀ r, r < 3 → ∀ L, L ≤ n r → ∀ c, c < 8 ^ L → re_b w r L c = re_S p0 kd0 fa0 fb0 wk wa wb ng r L c)
    (hH : ∀ r, re_H p kd fa fb wk wa wb ng r (n r) (nI f0) 0 (re_S p0 kd0 fa0 fb0 wk wa wb ng r))
    (H : ∀ w' q' b' t', (∀ r, r < 3 → ∀ L, L ≤ n r → ∀ c, c < 8 ^ L → re_b w' r L c = re_S p kd fa fb wk wa wb ng r L c) → post 1 (p, kd, fa, fb, sz, wk, wa, wb, ng, w', q', b', t')) :
    ∃ m, wX_remove_26 post (nI f0) m 0 p kd fa fb sz wk wa wb ng w q bd tn := by
  refine pk_loop (σ := (Nat → Int64) × (Nat → Int64) × (Nat → Int32) × (Nat → Int32)) (fun m i s => wX_remove_26 post (nI f0) m (nI i) p kd fa fb sz wk wa wb ng s.1 s.2.1 s.2.2.1 s.2.2.2)
    (fun i s => (∀ r, r < i → ∀ L, L ≤ n r → ∀ c, c < 8 ^ L → re_b s.1 r L c = re_S p kd fa fb wk wa wb ng r L c) ∧ (∀ r, i ≤ r → r < 3 → ∀ L, L ≤ n r → ∀ c, c < 8 ^ L → re_b s.1 r L c = re_S p0 kd0 fa0 fb0 wk wa wb ng r L c))
    3 0 (w, q, bd, tn) (by omega) ⟨fun r h => absurd h (by omega), fun r _ h => hold r h⟩ ?_ ?_
  · intro m s hs
    exact pk_le 3 3 (fun _ => H s.1 s.2.1 s.2.2.1 s.2.2.2 hs.1) (fun z => absurd z (by omega))
  · intro m i s hi hs hw
    refine pk_le 3 i (fun z => absurd z (by omega)) (fun _ => re_upd hi (hn i hi).1 (hn i hi).2 hd (hH i) (Or.inr ⟨nI_pos' (by omega), rfl, hs.2 i (by omega) hi⟩) (fun w' q' b' t' h1 h2 => nm_r (nI_1 i) (hw (w', q', b', t') ⟨?_, ?_⟩)))
    · intro r hr L hL c hc
      show re_b w' r L c = _
      by_cases e : r = i
      · subst e
        exact h1 L hL c hc
      · rw [h2 r L c (by omega) e (by have := (hn r (by omega)).1; omega) hc]
        exact hs.1 r (by omega) L hL c hc
    · intro r hr hr3 L hL c hc
      show re_b w' r L c = _
      rw [h2 r L c hr3 (by omega) (by have := (hn r hr3).1; omega) hc]
      exact hs.2 r (by omega) hr3 L hL c hc
theorem re_a73 {post : Int32 → St1 → Prop} {p : Int32} {kd fa fb sz wk wa wb ng : Nat → Int32} {w q : Nat → Int64} {bd tn : Nat → Int32} {n : Nat → Nat} {f0 : Nat} {p0 : Int32} {kd0 fa0 fb0 : Nat → Int32} (hn : ∀ r, r < 3 → n r ≤ 3 ∧ sz r = nI (n r)) (hd : ∀ c, c < 9 → re_okd (wa c) ∧ re_okd (wb c)) (hf0 : f0 < 7)
    (hold : ∀ r, r < 3 → ∀ L, L ≤ n r → ∀ c, c < 8 ^ L → re_b w r L c = re_S p0 kd0 fa0 fb0 wk wa wb ng r L c)
    (hH : ∀ r, re_H p kd fa fb wk wa wb ng r (n r) (nI f0) 1 (re_S p0 kd0 fa0 fb0 wk wa wb ng r))
    (H : ∀ w' q' b' t', (∀ r, r < 3 → ∀ L, L ≤ n r → ∀ c, c < 8 ^ L → re_b w' r L c = re_S p kd fa fb wk wa wb ng r L c) → post (nI f0) (p, kd, fa, fb, sz, wk, wa, wb, ng, w', q', b', t')) :
    ∃ m, wX_add_73 post (nI f0) m 0 p kd fa fb sz wk wa wb ng w q bd tn := by
  refine pk_loop (σ := (Nat → Int64) × (Nat → Int64) × (Nat → Int32) × (Nat → Int32)) (fun m i s => wX_add_73 post (nI f0) m (nI i) p kd fa fb sz wk wa wb ng s.1 s.2.1 s.2.2.1 s.2.2.2)
    (fun i s => (∀ r, r < i → ∀ L, L ≤ n r → ∀ c, c < 8 ^ L → re_b s.1 r L c = re_S p kd fa fb wk wa wb ng r L c) ∧ (∀ r, i ≤ r → r < 3 → ∀ L, L ≤ n r → ∀ c, c < 8 ^ L → re_b s.1 r L c = re_S p0 kd0 fa0 fb0 wk wa wb ng r L c))
    3 0 (w, q, bd, tn) (by omega) ⟨fun r h => absurd h (by omega), fun r _ h => hold r h⟩ ?_ ?_
  · intro m s hs
    exact pk_le 3 3 (fun _ => H s.1 s.2.1 s.2.2.1 s.2.2.2 hs.1) (fun z => absurd z (by omega))
  · intro m i s hi hs hw
    refine pk_le 3 i (fun z => absurd z (by omega)) (fun _ => re_upd hi (hn i hi).1 (hn i hi).2 hd (hH i) (Or.inr ⟨nI_pos' (by omega), rfl, hs.2 i (by omega) hi⟩) (fun w' q' b' t' h1 h2 => nm_r (nI_1 i) (hw (w', q', b', t') ⟨?_, ?_⟩)))
    · intro r hr L hL c hc
      show re_b w' r L c = _
      by_cases e : r = i
      · subst e
        exact h1 L hL c hc
      · rw [h2 r L c (by omega) e (by have := (hn r (by omega)).1; omega) hc]
        exact hs.1 r (by omega) L hL c hc
    · intro r hr hr3 L hL c hc
      show re_b w' r L c = _
      rw [h2 r L c hr3 (by omega) (by have := (hn r hr3).1; omega) hc]
      exact hs.2 r (by omega) hr3 L hL c hc
theorem re_rem {post : Int32 → St1 → Prop} {p : Int32} {kd fa fb sz wk wa wb ng : Nat → Int32} {w q : Nat → Int64} {bd tn : Nat → Int32} {n : Nat → Nat} {f : Nat} (hI : re_I n p kd fa fb sz wk wa wb ng w) (hf : f < 7)
    (H1 : re_h p f = true → ∀ w' q' b' t', re_I n (p &&& (((1 : Int32) <<< (nI f &&& 31)) ^^^ (-1))) kd fa fb sz wk wa wb ng w' → post 1 (p &&& (((1 : Int32) <<< (nI f &&& 31)) ^^^ (-1)), kd, fa, fb, sz, wk, wa, wb, ng, w', q', b', t'))
    (H0 : re_h p f = false → post 0 (p, kd, fa, fb, sz, wk, wa, wb, ng, w, q, bd, tn)) : wpX_remove post (p, kd, fa, fb, sz, wk, wa, wb, ng, w, q, bd, tn) (nI f) := by
  obtain ⟨hn, hd, hp, hb⟩ := hI
  unfold wpX_remove
  refine re_has hf (re_br (fun h => H0 h) (fun h => nm_e ?_))
  refine re_r26 hn hd hf hb (fun r => re_H1 hf (fun g _ => ⟨rfl, rfl, rfl⟩) (fun g e => ?_) (Or.inr ?_) (fun _ => ⟨rfl, rfl, rfl⟩) (fun z => absurd rfl z)) (fun w' q' b' t' h' => H1 h w' q' b' t' ⟨hn, hd, fun g hg => ?_, h'⟩)
  · rw [re_h_rem _ (by omega), decide_eq_false (fun z => e z.symm), Bool.not_false, Bool.and_true]
  · rw [re_h_rem _ (by omega), decide_eq_true rfl, Bool.not_true, Bool.and_false]
  · rw [re_h_rem _ (by omega), hp g hg, Bool.false_and]
theorem re_fok {post : Int32 → Prop} {k a b : Int32} (hk : ¬ k < 0 ∧ ¬ 2 < k) (ha : ¬ a < 0 ∧ ¬ 3 < a) (hb : ¬ b < 0 ∧ ¬ 3 < b) (H : post 1) : wpX_factOk post () k a b :=
  br_f hk.1 (br_f hk.2 (br_f ha.1 (br_f ha.2 (br_f hb.1 (br_f hb.2 H)))))
theorem re_rule {post : Int32 → Prop} {r : Nat} (hr : r < 3) (H : post 1) : wpX_isRule post () (nI r) := br_f (nI_pos (by omega)) (br_f (nI_ge (b := 3) hr (by decide)) H)
theorem re_add {post : Int32 → St1 → Prop} {p : Int32} {kd fa fb sz wk wa wb ng : Nat → Int32} {w q : Nat → Int64} {bd tn : Nat → Int32} {n : Nat → Nat} {k a b : Int32} (hI : re_I n p kd fa fb sz wk wa wb ng w) (hk : ¬ k < 0 ∧ ¬ 2 < k) (ha : ¬ a < 0 ∧ ¬ 3 < a) (hb : ¬ b < 0 ∧ ¬ 3 < b)
    (H1 : ∀ f, f < 7 → re_h p f = false → (∀ g, g < f → re_h p g = true) → ∀ w' q' b' t', re_I n (p ||| ((1 : Int32) <<< (nI f &&& 31))) (upd kd f k.toInt8.toInt32) (upd fa f a.toInt8.toInt32) (upd fb f b.toInt8.toInt32) sz wk wa wb ng w' →
      post (nI f) (p ||| ((1 : Int32) <<< (nI f &&& 31)), upd kd f k.toInt8.toInt32, upd fa f a.toInt8.toInt32, upd fb f b.toInt8.toInt32, sz, wk, wa, wb, ng, w', q', b', t'))
    (H2 : (∀ g, g < 7 → re_h p g = true) → post (-2) (p, kd, fa, fb, sz, wk, wa, wb, ng, w, q, bd, tn)) : wpX_add post (p, kd, fa, fb, sz, wk, wa, wb, ng, w, q, bd, tn) k a b := by
  obtain ⟨hn, hd, hp, hB⟩ := hI
  unfold wpX_add
  refine re_fok hk ha hb ?_
  refine br_f (show ¬ (1 : Int32) = 0 by decide) ?_
  refine pk_loop (σ := Unit) (fun m i _ => wX_add_14 post k a b p kd fa fb sz wk wa wb ng w q bd tn m (nI i)) (fun i _ => ∀ g, g < i → re_h p g = true) 7 0 () (by omega) (fun g h => absurd h (by omega)) ?_ ?_
  · intro m _ hs
    exact pk_le 7 7 (fun _ => H2 hs) (fun z => absurd z (by omega))
  · intro m i _ hi hs hw
    refine pk_le 7 i (fun z => absurd z (by omega)) (fun _ => re_has hi (re_br (fun h => ?_) (fun h => nm_r (nI_1 i) (hw () (lt_s hs h)))))
    rw [nI_clamp (show i < 2 ^ 31 by omega)]
    refine nm_e ⟨pk_in i 7 hi, nm_e ⟨pk_in i 7 hi, nm_e ⟨pk_in i 7 hi, nm_e ?_⟩⟩⟩
    refine re_a73 hn hd hi hB (fun r => re_H1 hi (fun g e => ⟨pk_un e, pk_un e, pk_un e⟩) (fun g e => ?_) (Or.inl h) (fun z => absurd (h.symm.trans z) (by decide)) (fun _ => ?_)) (fun w' q' b' t' h' => H1 i hi h hs w' q' b' t' ⟨hn, hd, fun g hg => ?_, h'⟩)
    · rw [re_h_add _ (by omega), decide_eq_false (fun z => e z.symm), Bool.or_false]
    · rw [re_h_add _ (by omega), decide_eq_true rfl, Bool.or_true]
    · rw [re_h_add _ (by omega), hp g hg, decide_eq_false (by omega), Bool.or_false]
theorem re_okd_nI {j : Nat} (hj : j < 8) : re_okd (nI j) := by
  intro h4 h7
  have a : 4 ≤ j := by
    rcases Nat.lt_or_ge j 4 with z | z
    · exact absurd (nI_lt (b := 4) z (by decide)) h4
    · exact z
  have b : j ≠ 7 := fun e => h7 (by rw [e]; rfl)
  show vp_in (nI j - nI 4) 3
  rw [pk_sub a]
  exact pk_in (j - 4) 3 (by omega)
theorem re_b8 : ∀ j, j < 8 → (nI j).toInt8.toInt32 = nI j := by decide +kernel
theorem re_okd7 (y : Int32) : re_okd (y &&& 7).toInt8.toInt32 := by
  obtain ⟨j, hj, e⟩ := pk_andE y (m := 7) 3 (by decide)
  rw [e, re_b8 j hj]
  exact re_okd_nI hj
theorem re_okdU {a : Nat → Int32} {k : Nat} {x : Int32} (h : ∀ c, c < 9 → re_okd (a c)) (hx : re_okd x) : ∀ c, c < 9 → re_okd (upd a k x c) := by
  intro c hc
  by_cases e : c = k
  · rw [e, pk_us]
    exact hx
  · rw [pk_un e]
    exact h c hc
def re_un (n : Nat → Nat) (r k : Nat) : Nat → Nat := fun j => if j = r then k else n j
theorem re_un_s {n : Nat → Nat} {r k : Nat} : re_un n r k r = k := if_pos rfl
theorem re_un_n {n : Nat → Nat} {r k j : Nat} (h : ¬ j = r) : re_un n r k j = n j := if_neg h
theorem re_c104 {post : Int32 → St1 → Prop} {p : Int32} {kd fa fb sz wk wa wb ng : Nat → Int32} {w q : Nat → Int64} {bd tn : Nat → Int32} {n : Nat → Nat} {r : Nat} {z0 : Int32} (hn : ∀ r, r < 3 → n r ≤ 3 ∧ sz r = nI (n r)) (hd : ∀ c, c < 9 → re_okd (wa c) ∧ re_okd (wb c)) (hp : ∀ g, 7 ≤ g → re_h p g = false) (hr : r < 3) (h3 : n r < 3)
    (hb : ∀ ng', (∀ c, c ≠ r * 3 + n r → ng' c = ng c) → ∀ r', r' < 3 → r' ≠ r → ∀ L, L ≤ n r' → ∀ c, c < 8 ^ L → re_b w r' L c = re_S p kd fa fb wk wa wb ng' r' L c)
    (H : ∀ y n' sz' ng' w' q' b' t', re_I n' p kd fa fb sz' wk wa wb ng' w' → post y (p, kd, fa, fb, sz', wk, wa, wb, ng', w', q', b', t')) :
    wX_condition_104 post (nI r) z0 (nI (r * 3 + n r)) p kd fa fb sz wk wa wb ng w q bd tn := by
  unfold wX_condition_104
  rw [nI_clamp (show r * 3 + n r < 2 ^ 31 by omega), nI_clamp (show r < 2 ^ 31 by omega), (hn r hr).2, nI_1, re_b8 (n r + 1) (by omega)]
  refine ⟨pk_in (r * 3 + n r) 9 (by omega), nm_e ⟨pk_in r 3 hr, pk_in r 3 hr, nm_e ?_⟩⟩
  refine re_upd (n := n r + 1) (So := fun _ _ => false) hr (by omega) pk_us hd re_H0 (Or.inl ⟨by decide, rfl⟩) (fun w' q' b' t' h1 h2 => ⟨pk_in r 3 hr, H _ (re_un n r (n r + 1)) _ _ w' q' b' t' ⟨?_, hd, hp, ?_⟩⟩)
  · intro j hj
    by_cases e : j = r
    · subst e
      rw [re_un_s, pk_us]
      exact ⟨by omega, rfl⟩
    · rw [re_un_n e, pk_un e]
      exact hn j hj
  · intro j hj L hL c hc
    by_cases e : j = r
    · subst e
      rw [re_un_s] at hL
      exact h1 L hL c hc
    · rw [re_un_n e] at hL
      rw [h2 j L c hj e (by have := (hn j hj).1; omega) hc]
      exact hb _ (fun c hc => pk_un hc) j hj e L hL c hc
theorem re_cond {post : Int32 → St1 → Prop} {p : Int32} {kd fa fb sz wk wa wb ng : Nat → Int32} {w q : Nat → Int64} {bd tn : Nat → Int32} {n : Nat → Nat} {r : Nat} {x : Int32} (hI : re_I n p kd fa fb sz wk wa wb ng w) (hr : r < 3)
    (H : ∀ y n' sz' wk' wa' wb' ng' w' q' b' t', re_I n' p kd fa fb sz' wk' wa' wb' ng' w' → post y (p, kd, fa, fb, sz', wk', wa', wb', ng', w', q', b', t')) :
    wpX_condition post (p, kd, fa, fb, sz, wk, wa, wb, ng, w, q, bd, tn) (nI r) x := by
  have T : ∀ y, post y (p, kd, fa, fb, sz, wk, wa, wb, ng, w, q, bd, tn) := fun y => H y n sz wk wa wb ng w q bd tn hI
  obtain ⟨hn, hd, hp, hB⟩ := hI
  unfold wpX_condition
  refine re_rule hr ?_
  refine br_f (show ¬ (1 : Int32) = 0 by decide) (br_c (fun _ => T _) (fun _ => br_c (fun _ => T _) (fun _ => br_c (fun _ => ⟨pk_in r 3 hr, ?_⟩) (fun _ => T _))))
  have hb := (hn r hr).1
  rw [nI_clamp (show r < 2 ^ 31 by omega), (hn r hr).2]
  refine pk_lt (n r) 3 (fun h3 => ⟨pk_in r 3 hr, nm_r (re_cell r (n r)) ?_⟩) (fun _ => T _) rfl rfl (by omega) (by omega)
  rw [nI_clamp (show r * 3 + n r < 2 ^ 31 by omega)]
  have P : ∀ z0, wX_condition_104 post (nI r) z0 (nI (r * 3 + n r)) p kd fa fb sz (upd wk (r * 3 + n r) ((x &&& 3).toInt8.toInt32)) (upd wa (r * 3 + n r) (((x >>> ((2 : Int32) &&& 31)) &&& 7).toInt8.toInt32)) (upd wb (r * 3 + n r) (((x >>> ((5 : Int32) &&& 31)) &&& 7).toInt8.toInt32)) ng w q bd tn := by
    intro z0
    refine re_c104 hn (fun c hc => ⟨re_okdU (fun c hc => (hd c hc).1) (re_okd7 _) c hc, re_okdU (fun c hc => (hd c hc).2) (re_okd7 _) c hc⟩) hp hr h3 ?_ (fun y n' sz' ng' w' q' b' t' h => H y n' sz' _ _ _ ng' w' q' b' t' h)
    intro ng' hng r' hr' e L hL c hc
    rw [hB r' hr' L hL c hc]
    have b := (hn r' hr').1
    refine (re_S_c L (fun i hi => ⟨⟨pk_un ?_, pk_un ?_, pk_un ?_⟩, hng _ ?_⟩) (fun _ _ => rfl) (fun _ _ _ => ⟨rfl, rfl, rfl⟩) c).symm <;> omega
  exact ⟨pk_in (r * 3 + n r) 9 (by omega), nm_e ⟨pk_in (r * 3 + n r) 9 (by omega), nm_e ⟨pk_in (r * 3 + n r) 9 (by omega), nm_e (br_c (fun _ => P 0) (fun _ => P 1))⟩⟩⟩
theorem re_drop {post : Int32 → St1 → Prop} {p : Int32} {kd fa fb sz wk wa wb ng : Nat → Int32} {w q : Nat → Int64} {bd tn : Nat → Int32} {n : Nat → Nat} {r : Nat} (hI : re_I n p kd fa fb sz wk wa wb ng w) (hr : r < 3)
    (H : ∀ y n' sz' w' q' b' t', re_I n' p kd fa fb sz' wk wa wb ng w' → post y (p, kd, fa, fb, sz', wk, wa, wb, ng, w', q', b', t')) : wpX_drop post (p, kd, fa, fb, sz, wk, wa, wb, ng, w, q, bd, tn) (nI r) := by
  have T : ∀ y, post y (p, kd, fa, fb, sz, wk, wa, wb, ng, w, q, bd, tn) := fun y => H y n sz w q bd tn hI
  obtain ⟨hn, hd, hp, hB⟩ := hI
  have hb := (hn r hr).1
  unfold wpX_drop
  refine re_rule hr ?_
  refine br_f (show ¬ (1 : Int32) = 0 by decide) ⟨pk_in r 3 hr, ?_⟩
  rw [nI_clamp (show r < 2 ^ 31 by omega), (hn r hr).2]
  refine pk_eq (n r) 0 (fun _ => T _) (fun h0 => ⟨pk_in r 3 hr, pk_in r 3 hr, nm_e ?_⟩)
  obtain ⟨k, hk⟩ : ∃ k, n r = k + 1 := ⟨n r - 1, by omega⟩
  rw [hk, nI_pred, re_b8 k (by omega)]
  refine re_upd (n := k) (So := fun _ _ => false) hr (by omega) pk_us hd re_H0 (Or.inl ⟨by decide, rfl⟩) (fun w' q' b' t' h1 h2 => ⟨pk_in r 3 hr, H _ (re_un n r k) _ w' q' b' t' ⟨?_, hd, hp, ?_⟩⟩)
  · intro j hj
    by_cases e : j = r
    · subst e
      rw [re_un_s, pk_us]
      exact ⟨by omega, rfl⟩
    · rw [re_un_n e, pk_un e]
      exact hn j hj
  · intro j hj L hL c hc
    by_cases e : j = r
    · subst e
      rw [re_un_s] at hL
      exact h1 L hL c hc
    · rw [re_un_n e] at hL
      rw [h2 j L c hj e (by have := (hn j hj).1; omega) hc]
      exact hB j hj L hL c hc
theorem re_r3 (y : Int32) : ∃ j, j < 3 ∧ (y &&& 255) - (y &&& 255) / 3 * 3 = nI j := by
  obtain ⟨k, hk, e⟩ := pk_andE y (m := 255) 8 (by decide)
  refine ⟨k % 3, Nat.mod_lt _ (by decide), ?_⟩
  rw [e]
  exact pk_rem (a := k) (d := 3) (by omega) (by decide) (by decide)
theorem re_r7 (y : Int32) : ∃ j, j < 7 ∧ (y &&& 7) - (y &&& 7) / 7 * 7 = nI j := by
  obtain ⟨k, hk, e⟩ := pk_andE y (m := 7) 3 (by decide)
  refine ⟨k % 7, Nat.mod_lt _ (by decide), ?_⟩
  rw [e]
  exact pk_rem (a := k) (d := 7) (by omega) (by decide) (by decide)
theorem re_ok2 {j : Nat} (h : j < 3) : ¬ nI j < 0 ∧ ¬ 2 < nI j := ⟨nI_pos (by omega), nI_nlt (a := 2) (b := j) (by omega) (by decide)⟩
theorem re_ok3 (y : Int32) : ¬ (y &&& 3) < 0 ∧ ¬ 3 < (y &&& 3) := by
  obtain ⟨k, hk, e⟩ := pk_andE y (m := 3) 2 (by decide)
  rw [e]
  exact ⟨nI_pos (by omega), nI_nlt (a := 3) (b := k) (by omega) (by decide)⟩
theorem re_ok1 (y : Int32) : ¬ (y &&& 1) < 0 ∧ ¬ 3 < (y &&& 1) := by
  obtain ⟨k, hk, e⟩ := pk_andE y (m := 1) 1 (by decide)
  rw [e]
  exact ⟨nI_pos (by omega), nI_nlt (a := 3) (b := k) (by omega) (by decide)⟩
theorem re_call {post : St1 → Prop} {p : Int32} {kd fa fb sz wk wa wb ng : Nat → Int32} {w q : Nat → Int64} {bd tn : Nat → Int32} {n : Nat → Nat} {v x : Int32} (hI : re_I n p kd fa fb sz wk wa wb ng w)
    (H : ∀ n' p' kd' fa' fb' sz' wk' wa' wb' ng' w' q' b' t', re_I n' p' kd' fa' fb' sz' wk' wa' wb' ng' w' → post (p', kd', fa', fb', sz', wk', wa', wb', ng', w', q', b', t')) : wpL_call post (p, kd, fa, fb, sz, wk, wa, wb, ng, w, q, bd, tn) v x := by
  unfold wpL_call
  refine br_c (fun _ => br_c (fun _ => br_c (fun _ => ⟨by decide, ?_⟩) (fun _ => ⟨by decide, ?_⟩)) (fun _ => ⟨by decide, ?_⟩)) (fun _ => ⟨by decide, br_c (fun _ => nm_e ⟨by decide, ?_⟩) (fun _ => nm_e ⟨by decide, ?_⟩)⟩)
  · obtain ⟨j, hj, e⟩ := re_r7 x
    rw [e]
    exact re_rem hI hj (fun _ w' q' b' t' h => H _ _ _ _ _ _ _ _ _ _ _ _ _ _ h) (fun _ => H _ _ _ _ _ _ _ _ _ _ _ _ _ _ hI)
  · obtain ⟨j, hj, e⟩ := re_r3 x
    rw [e]
    exact re_add hI (re_ok2 hj) (re_ok3 _) (re_ok1 _) (fun f _ _ _ w' q' b' t' h => H _ _ _ _ _ _ _ _ _ _ _ _ _ _ h) (fun _ => H _ _ _ _ _ _ _ _ _ _ _ _ _ _ hI)
  · obtain ⟨j, hj, e⟩ := re_r3 (x >>> ((16 : Int32) &&& 31))
    rw [e]
    exact re_drop hI hj (fun y n' sz' w' q' b' t' h => H _ _ _ _ _ _ _ _ _ _ _ _ _ _ h)
  · obtain ⟨j, hj, e⟩ := re_r3 (x >>> ((16 : Int32) &&& 31))
    rw [e]
    exact re_cond hI hj (fun y n' sz' wk' wa' wb' ng' w' q' b' t' h => H _ _ _ _ _ _ _ _ _ _ _ _ _ _ h)
  · obtain ⟨j, hj, e⟩ := re_r3 (x >>> ((16 : Int32) &&& 31))
    rw [e]
    exact re_cond hI hj (fun y n' sz' wk' wa' wb' ng' w' q' b' t' h => H _ _ _ _ _ _ _ _ _ _ _ _ _ _ h)
end
section
/-! ===== the methods that answer ===== -/
theorem re_count {post : Int32 → Prop} {p : Int32} {kd fa fb sz wk wa wb ng : Nat → Int32} {w q : Nat → Int64} {bd tn : Nat → Int32} {r L : Nat} {P : Nat → Bool} (hr : r < 3) (hL : L ≤ 3) (hP : ∀ c, c < 8 ^ L → re_b w r L c = P c) (H : post (nI (re_cn P (8 ^ L)))) : wpX_countAt post (p, kd, fa, fb, sz, wk, wa, wb, ng, w, q, bd, tn) (nI r) (nI L) := by
  have h8 := re_p8 hL
  unfold wpX_countAt
  refine pk_loop (σ := Unit) (fun m i _ => wX_countAt_5 post (nI r) (nI L) p kd fa fb sz wk wa wb ng w q bd tn m (nI (re_cn P i)) (nI i)) (fun _ _ => True) (8 ^ L) 0 () (by omega) trivial ?_ ?_
  · intro m _ _
    rw [wX_countAt_5]
    refine re_codes (L := L) (by omega) ?_
    exact pk_le (8 ^ L) (8 ^ L) (fun _ => H) (fun z => absurd z (by omega))
  · intro m i _ hi _ hw
    have t : wX_countAt_5 post (nI r) (nI L) p kd fa fb sz wk wa wb ng w q bd tn m (nI (re_cn P (i + 1))) (nI (i + 1)) := hw () trivial
    rw [wX_countAt_5]
    refine re_codes (L := L) (by omega) ?_
    refine pk_le (8 ^ L) i (fun z => absurd z (by omega)) (fun _ => re_isIn hr hL hi (re_br (fun h => nm_r (Int32.add_zero _) (nm_r (nI_1 i) ?_)) (fun h => nm_r (nI_1 _) (nm_r (nI_1 i) ?_))))
    · rw [hP i hi] at h
      rw [re_cn_f h] at t
      exact t
    · rw [hP i hi] at h
      rw [re_cn_t h] at t
      exact t
theorem re_matches {post : Int32 → Prop} {p : Int32} {kd fa fb sz wk wa wb ng : Nat → Int32} {w q : Nat → Int64} {bd tn : Nat → Int32} {n : Nat → Nat} {r : Nat} (hI : re_I n p kd fa fb sz wk wa wb ng w) (hr : r < 3) (H : post (nI (re_cn (re_S p kd fa fb wk wa wb ng r (n r)) (8 ^ n r)))) : wpX_matches post (p, kd, fa, fb, sz, wk, wa, wb, ng, w, q, bd, tn) (nI r) := by
  obtain ⟨hn, hd, hp, hB⟩ := hI
  unfold wpX_matches
  refine re_rule hr ?_
  refine br_f (show ¬ (1 : Int32) = 0 by decide) ⟨pk_in r 3 hr, ?_⟩
  rw [nI_clamp (show r < 2 ^ 31 by omega), (hn r hr).2]
  exact re_count hr (hn r hr).1 (hB r hr (n r) (Nat.le_refl _)) H
theorem re_msI : ∀ L, L < 4 → (511 : Int32) &&& ((nI (8 ^ L) - 1) ^^^ (-1)) = nI (512 - 8 ^ L) := by decide +kernel
theorem re_mcI : ∀ L, L < 4 → ∀ c, c < 8 ^ L → nI c ||| nI (512 - 8 ^ L) = nI (c + (512 - 8 ^ L)) := by decide +kernel
theorem re_match {post : Int32 → Prop} {p : Int32} {kd fa fb sz wk wa wb ng : Nat → Int32} {w q : Nat → Int64} {bd tn : Nat → Int32} {n : Nat → Nat} {r k : Nat} (hI : re_I n p kd fa fb sz wk wa wb ng w) (hr : r < 3) (hk : k < 2 ^ 31)
    (H : post (re_fm (re_S p kd fa fb wk wa wb ng r (n r)) k (512 - 8 ^ n r) (8 ^ n r) 0)) : wpX_match post (p, kd, fa, fb, sz, wk, wa, wb, ng, w, q, bd, tn) (nI r) (nI k) := by
  obtain ⟨hn, hd, hp, hB⟩ := hI
  have hL := (hn r hr).1
  have hP := hB r hr (n r) (Nat.le_refl _)
  have h8 := re_p8 hL
  unfold wpX_match
  refine re_rule hr ?_
  refine br_f (show ¬ (1 : Int32) = 0 by decide) ⟨pk_in r 3 hr, ?_⟩
  rw [nI_clamp (show r < 2 ^ 31 by omega), (hn r hr).2]
  refine nm_e (re_codes (L := n r) (by omega) ?_)
  refine nm_r (re_msI (n r) (by omega)) ?_
  generalize hPd : re_S p kd fa fb wk wa wb ng r (n r) = P at H hP
  refine pk_loop (σ := Unit) (fun m i _ => wX_match_36 post (nI r) (nI k) (nI (n r)) (nI (512 - 8 ^ n r)) p kd fa fb sz wk wa wb ng w q bd tn m (nI (re_cn P i)) (nI i)) (fun i _ => post (re_fm P k (512 - 8 ^ n r) (8 ^ n r - i) i)) (8 ^ n r) 0 () (by omega) H ?_ ?_
  · intro m _ hs
    rw [wX_match_36]
    refine re_codes (L := n r) (by omega) ?_
    refine pk_le (8 ^ n r) (8 ^ n r) (fun _ => ?_) (fun z => absurd z (by omega))
    rw [Nat.sub_self] at hs
    exact hs
  · intro m i _ hi hs hw
    have t : post (re_fm P k (512 - 8 ^ n r) (8 ^ n r - (i + 1)) (i + 1)) → wX_match_36 post (nI r) (nI k) (nI (n r)) (nI (512 - 8 ^ n r)) p kd fa fb sz wk wa wb ng w q bd tn m (nI (re_cn P (i + 1))) (nI (i + 1)) := fun h => hw () h
    have hle := re_cn_le P i
    rw [show 8 ^ n r - i = (8 ^ n r - (i + 1)) + 1 by omega] at hs
    unfold re_fm at hs
    rw [wX_match_36]
    refine re_codes (L := n r) (by omega) ?_
    refine pk_le (8 ^ n r) i (fun z => absurd z (by omega)) (fun _ => re_isIn hr hL hi (re_br (fun h => nm_r (nI_1 i) ?_) (fun h => ?_)))
    · rw [hP i hi] at h
      rw [if_neg (by rw [h]; decide)] at hs
      have t' := t hs
      rw [re_cn_f h] at t'
      exact t'
    · rw [hP i hi] at h
      rw [if_pos h] at hs
      refine pk_eq (re_cn P i) k (fun e => ?_) (fun e => nm_r (nI_1 _) (nm_r (nI_1 i) ?_))
      · rw [if_pos e] at hs
        rw [re_mcI (n r) (by omega) i hi]
        exact hs
      · rw [if_neg e] at hs
        have t' := t hs
        rw [re_cn_t h] at t'
        exact t'
theorem re_part {post : Int32 → Prop} {p : Int32} {kd fa fb sz wk wa wb ng : Nat → Int32} {w q : Nat → Int64} {bd tn : Nat → Int32} {n : Nat → Nat} {r L : Nat} (hI : re_I n p kd fa fb sz wk wa wb ng w) (hr : r < 3) (hL : L ≤ n r) (H : post (nI (re_cn (re_S p kd fa fb wk wa wb ng r L) (8 ^ L)))) : wpX_partial post (p, kd, fa, fb, sz, wk, wa, wb, ng, w, q, bd, tn) (nI r) (nI L) := by
  obtain ⟨hn, hd, hp, hB⟩ := hI
  have h3 := (hn r hr).1
  unfold wpX_partial
  refine re_rule hr ?_
  refine br_f (show ¬ (1 : Int32) = 0 by decide) (br_f (nI_pos (by omega)) ⟨pk_in r 3 hr, ?_⟩)
  rw [nI_clamp (show r < 2 ^ 31 by omega), (hn r hr).2]
  exact pk_lt (n r) L (fun z => absurd z (by omega)) (fun _ => re_count hr (by omega) (hB r hr L hL) H)
/-- the rules that are ready, as bits -/
def re_rd (B : Nat → Bool) : Nat → Int32
  | 0 => 0
  | i + 1 => if B i = true then re_rd B i ||| ((1 : Int32) <<< (nI i &&& 31)) else re_rd B i ||| 0
theorem re_rd_h (B : Nat → Bool) (i : Nat) : i ≤ 32 → ∀ g, re_h (re_rd B i) g = (decide (g < i) && B g) := by
  induction i with
  | zero =>
    intro _ g
    rw [decide_eq_false (Nat.not_lt_zero g), Bool.false_and]
    exact re_h_0 g
  | succ i ih =>
    intro hi g
    unfold re_rd
    have d := ih (by omega) g
    by_cases e : g = i
    · subst e
      rw [decide_eq_false (by omega), Bool.false_and] at d
      rw [decide_eq_true (show g < g + 1 by omega), Bool.true_and]
      by_cases h : B g = true
      · rw [if_pos h, re_h_or, re_h_one (by omega), decide_eq_true rfl, Bool.or_true, h]
      · rw [if_neg h, re_h_or, d, re_h_0, Bool.eq_false_iff.mpr h]
        rfl
    · rw [decide_eq_decide.mpr (show g < i + 1 ↔ g < i by omega), ← d]
      by_cases h : B i = true
      · rw [if_pos h, re_h_or, re_h_one (by omega), decide_eq_false (fun z => e z.symm), Bool.or_false]
      · rw [if_neg h, re_h_or, re_h_0, Bool.or_false]
theorem re_ready {post : Int32 → Prop} {p : Int32} {kd fa fb sz wk wa wb ng : Nat → Int32} {w q : Nat → Int64} {bd tn : Nat → Int32} {n : Nat → Nat} (hI : re_I n p kd fa fb sz wk wa wb ng w)
    (H : post (re_rd (fun j => decide (0 < re_cn (re_S p kd fa fb wk wa wb ng j (n j)) (8 ^ n j))) 3)) : wpX_ready post (p, kd, fa, fb, sz, wk, wa, wb, ng, w, q, bd, tn) := by
  unfold wpX_ready
  generalize hB : (fun j => decide (0 < re_cn (re_S p kd fa fb wk wa wb ng j (n j)) (8 ^ n j))) = B at H
  refine pk_loop (σ := Unit) (fun m i _ => wX_ready_4 post p kd fa fb sz wk wa wb ng w q bd tn m (re_rd B i) (nI i)) (fun _ _ => True) 3 0 () (by omega) trivial ?_ ?_
  · intro m _ _
    exact pk_le 3 3 (fun _ => H) (fun z => absurd z (by omega))
  · intro m i _ hi _ hw
    have t : wX_ready_4 post p kd fa fb sz wk wa wb ng w q bd tn m (re_rd B (i + 1)) (nI (i + 1)) := hw () trivial
    have b1 := re_cn_le (re_S p kd fa fb wk wa wb ng i (n i)) (8 ^ n i)
    have b2 := re_p8 (hI.1 i hi).1
    have eB : B i = decide (0 < re_cn (re_S p kd fa fb wk wa wb ng i (n i)) (8 ^ n i)) := by rw [← hB]
    unfold re_rd at t
    refine pk_le 3 i (fun z => absurd z (by omega)) (fun _ => re_matches hI hi (pk_le (re_cn (re_S p kd fa fb wk wa wb ng i (n i)) (8 ^ n i)) 0 (fun z => nm_e (nm_r (nI_1 i) ?_)) (fun z => nm_e (nm_r (nI_1 i) ?_))))
    · rw [if_neg (by rw [eB, decide_eq_false (by omega)]; decide)] at t
      exact t
    · rw [if_pos (by rw [eB, decide_eq_true z])] at t
      exact t
theorem re_const {post : Int32 → Prop} {d v : Int32} (H : ∀ b, post (re_i b)) : wpX_constant post () d v := br_c (fun _ => H true) (fun _ => br_c (fun _ => H true) (fun _ => H false))
theorem re_looks {post : Int32 → Prop} {p : Int32} {kd fa fb sz wk wa wb ng : Nat → Int32} {w q : Nat → Int64} {bd tn : Nat → Int32} {c f : Nat} (hc : c < 9) (hf : f < 7) (H : ∀ b, post (re_i b)) : wpX_looksRight post (p, kd, fa, fb, sz, wk, wa, wb, ng, w, q, bd, tn) (nI c) (nI f) := by
  unfold wpX_looksRight
  refine ⟨pk_in f 7 hf, pk_in c 9 hc, br_c (fun _ => ⟨pk_in c 9 hc, pk_in f 7 hf, ?_⟩) (fun _ => H false)⟩
  refine re_const (fun b => re_br (fun _ => H false) (fun _ => ⟨pk_in c 9 hc, pk_in f 7 hf, ?_⟩))
  exact re_const (fun b => re_br (fun _ => H false) (fun _ => H true))
theorem re_fitting {post : Int32 → Prop} {p : Int32} {kd fa fb sz wk wa wb ng : Nat → Int32} {w q : Nat → Int64} {bd tn : Nat → Int32} {n : Nat → Nat} {r i : Nat} (hI : re_I n p kd fa fb sz wk wa wb ng w) (hr : r < 3) (hi : i < 3)
    (H1 : i < n r → ∀ k, k < 8 → post (nI k)) (H0 : n r ≤ i → post (-1)) : wpX_fitting post (p, kd, fa, fb, sz, wk, wa, wb, ng, w, q, bd, tn) (nI r) (nI i) := by
  obtain ⟨hn, hd, hp, hB⟩ := hI
  have h3 := (hn r hr).1
  unfold wpX_fitting
  refine re_rule hr ?_
  refine br_f (show ¬ (1 : Int32) = 0 by decide) (br_f (nI_pos (by omega)) ⟨pk_in r 3 hr, ?_⟩)
  rw [nI_clamp (show r < 2 ^ 31 by omega), (hn r hr).2]
  refine pk_lt i (n r) (fun h => ?_) (fun h => H0 h)
  refine pk_loop (σ := Nat) (fun m j c => wX_fitting_28 post (nI r) (nI i) p kd fa fb sz wk wa wb ng w q bd tn m (nI c) (nI j)) (fun j c => c ≤ j) 7 0 0 (by omega) (Nat.le_refl 0) ?_ ?_
  · intro m c hc
    exact pk_le 7 7 (fun _ => H1 h c (by omega)) (fun z => absurd z (by omega))
  · intro m j c hj hc hw
    have t0 : wX_fitting_28 post (nI r) (nI i) p kd fa fb sz wk wa wb ng w q bd tn m (nI c) (nI (j + 1)) := hw c (by omega)
    have t1 : wX_fitting_28 post (nI r) (nI i) p kd fa fb sz wk wa wb ng w q bd tn m (nI (c + 1)) (nI (j + 1)) := hw (c + 1) (by omega)
    refine pk_le 7 j (fun z => absurd z (by omega)) (fun _ => re_has hj (re_br (fun _ => nm_r (Int32.add_zero _) (nm_r (nI_1 j) t0)) (fun _ => ?_)))
    rw [re_cell]
    exact re_looks (by omega) hj (fun b => re_br (fun _ => nm_r (Int32.add_zero _) (nm_r (nI_1 j) t0)) (fun _ => nm_r (nI_1 c) (nm_r (nI_1 j) t1)))
theorem re_conds {post : Int32 → Prop} {p : Int32} {kd fa fb sz wk wa wb ng : Nat → Int32} {w q : Nat → Int64} {bd tn : Nat → Int32} {n : Nat → Nat} {r : Nat} (hI : re_I n p kd fa fb sz wk wa wb ng w) (hr : r < 3) (H : post (nI (n r))) : wpL_conditions post (p, kd, fa, fb, sz, wk, wa, wb, ng, w, q, bd, tn) (nI r) := by
  have h3 := (hI.1 r hr).1
  unfold wpL_conditions
  refine Exists.elim (pk_loop (σ := Unit) (fun m i _ => wL_conditions_4 post (nI r) p kd fa fb sz wk wa wb ng w q bd tn m (nI (min i (n r))) (nI i)) (fun _ _ => True) 3 0 () (by omega) trivial ?_ ?_) (fun m hm => ?_)
  · intro m _ _
    refine pk_le 3 3 (fun _ => ?_) (fun z => absurd z (by omega))
    rw [show min 3 (n r) = n r by omega]
    exact H
  · intro m i _ hi _ hw
    have t : wL_conditions_4 post (nI r) p kd fa fb sz wk wa wb ng w q bd tn m (nI (min (i + 1) (n r))) (nI (i + 1)) := hw () trivial
    refine pk_le 3 i (fun z => absurd z (by omega)) (fun _ => re_fitting hI hr hi (fun h k hk => br_f (nI_pos (by omega)) (nm_r (nI_1 _) (nm_r (nI_1 i) ?_))) (fun h => br_t (by decide) (nm_r (nI_1 i) ?_)))
    · rw [show min (i + 1) (n r) = min i (n r) + 1 by omega] at t
      exact t
    · rw [show min (i + 1) (n r) = min i (n r) by omega] at t
      exact t
  · have hm' : wL_conditions_4 post (nI r) p kd fa fb sz wk wa wb ng w q bd tn m (nI (min 0 (n r))) (nI 0) := hm
    rw [Nat.zero_min] at hm'
    exact ⟨m, hm'⟩
/-- fact f stands in code c -/
def re_hd (c L f : Nat) : Bool := (List.range L).any (fun i => decide (re_dg c i = f))
theorem re_holds {post : Int32 → Prop} {c L f : Nat} (hc : c < 512) (hL : L ≤ 3) (hf : f < 7) (H : post (re_i (re_hd c L f))) : wpX_holds post () (nI c) (nI L) (nI f) := by
  unfold wpX_holds
  refine pk_loop (σ := Unit) (fun m i _ => wX_holds_2 post (nI c) (nI L) (nI f) m (nI i)) (fun i _ => ∀ j, j < i → ¬ re_dg c j = f) L 0 () (by omega) (fun j h => absurd h (by omega)) ?_ ?_
  · intro m _ hs
    refine pk_le L L (fun _ => ?_) (fun z => absurd z (by omega))
    have e : re_hd c L f = false := List.any_eq_false.mpr (fun i hi => by rw [decide_eq_false (hs i (List.mem_range.mp hi))]; decide)
    rw [e] at H
    exact H
  · intro m i _ hi hs hw
    have hdg : re_dg c i < 8 := Nat.mod_lt _ (by decide)
    refine pk_le L i (fun z => absurd z (by omega)) (fun _ => ?_)
    rw [re_dgI i (by omega) c hc]
    refine pk_eq (re_dg c i) f (fun e => ?_) (fun e => nm_r (nI_1 i) (hw () (lt_s hs e)))
    have e2 : re_hd c L f = true := List.any_eq_true.mpr ⟨i, List.mem_range.mpr hi, decide_eq_true e⟩
    rw [e2] at H
    exact H
theorem re_us30 {post : Int32 → Prop} {J : Int32 → Int32 → Prop} {p : Int32} {kd fa fb sz wk wa wb ng : Nat → Int32} {w q : Nat → Int64} {bd tn : Nat → Int32} {r L f t : Nat} {P : Nat → Bool} (hr : r < 3) (hL : L ≤ 3) (hf : f < 7) (hP : ∀ c, c < 8 ^ L → re_b w r L c = P c)
    (H : J (nI (t + re_cn (fun c => P c && re_hd c L f) (8 ^ L))) (nI (r + 1))) : ∃ m, wX_uses_30 post J (nI f) (nI r) (nI L) p kd fa fb sz wk wa wb ng w q bd tn m (nI t) 0 := by
  have h8 := re_p8 hL
  generalize hQ : (fun c => P c && re_hd c L f) = Q at H
  refine pk_loop (σ := Unit) (fun m i _ => wX_uses_30 post J (nI f) (nI r) (nI L) p kd fa fb sz wk wa wb ng w q bd tn m (nI (t + re_cn Q i)) (nI i)) (fun _ _ => True) (8 ^ L) 0 () (by omega) trivial ?_ ?_
  · intro m _ _
    rw [wX_uses_30]
    refine re_codes (L := L) (by omega) ?_
    exact pk_le (8 ^ L) (8 ^ L) (fun _ => nm_r (nI_1 r) H) (fun z => absurd z (by omega))
  · intro m i _ hi _ hw
    have T : wX_uses_30 post J (nI f) (nI r) (nI L) p kd fa fb sz wk wa wb ng w q bd tn m (nI (t + re_cn Q (i + 1))) (nI (i + 1)) := hw () trivial
    have eQ : Q i = (P i && re_hd i L f) := by rw [← hQ]
    rw [wX_uses_30]
    refine re_codes (L := L) (by omega) ?_
    refine pk_le (8 ^ L) i (fun z => absurd z (by omega)) (fun _ => re_isIn hr hL hi (re_br (fun h => nm_r (Int32.add_zero _) (nm_r (nI_1 i) ?_)) (fun h => ?_)))
    · rw [hP i hi] at h
      rw [re_cn_f (by rw [eQ, h, Bool.false_and])] at T
      exact T
    · rw [hP i hi] at h
      refine re_holds (re_rng hL hi).1 hL hf (re_br (fun g => nm_r (Int32.add_zero _) (nm_r (nI_1 i) ?_)) (fun g => nm_r (nI_1 _) (nm_r (nI_1 i) ?_)))
      · rw [re_cn_f (by rw [eQ, g, Bool.and_false])] at T
        exact T
      · rw [re_cn_t (by rw [eQ, h, g]; rfl)] at T
        exact T
def re_sum (g : Nat → Nat) : Nat → Nat
  | 0 => 0
  | r + 1 => re_sum g r + g r
theorem re_uses {post : Int32 → Prop} {p : Int32} {kd fa fb sz wk wa wb ng : Nat → Int32} {w q : Nat → Int64} {bd tn : Nat → Int32} {n : Nat → Nat} {f : Nat} (hI : re_I n p kd fa fb sz wk wa wb ng w) (hf : f < 7) (H0 : re_h p f = false → post (-1))
    (H1 : re_h p f = true → post (nI (re_sum (fun j => re_cn (fun c => re_S p kd fa fb wk wa wb ng j (n j) c && re_hd c (n j) f) (8 ^ n j)) 3))) : wpX_uses post (p, kd, fa, fb, sz, wk, wa, wb, ng, w, q, bd, tn) (nI f) := by
  obtain ⟨hn, hd, hp, hB⟩ := hI
  unfold wpX_uses
  refine re_has hf (re_br (fun h => H0 h) (fun h => ?_))
  have H := H1 h
  refine pk_loop (σ := Unit) (fun m i _ => wX_uses_14 post (nI f) p kd fa fb sz wk wa wb ng w q bd tn m (nI (re_sum (fun j => re_cn (fun c => re_S p kd fa fb wk wa wb ng j (n j) c && re_hd c (n j) f) (8 ^ n j)) i)) (nI i)) (fun _ _ => True) 3 0 () (by omega) trivial ?_ ?_
  · intro m _ _
    exact pk_le 3 3 (fun _ => H) (fun z => absurd z (by omega))
  · intro m i _ hi _ hw
    refine pk_le 3 i (fun z => absurd z (by omega)) (fun _ => ⟨pk_in i 3 hi, ?_⟩)
    rw [nI_clamp (show i < 2 ^ 31 by omega), (hn i hi).2]
    exact nm_e (re_us30 hi (hn i hi).1 hf (hB i hi (n i) (Nat.le_refl _)) (hw () trivial))
theorem re_hdm : ∀ L, L < 4 → ∀ c, c < 8 ^ L → ∀ f, f < 7 → re_hd c L f = (decide ((c + (512 - 8 ^ L)) % 8 = f) || (decide ((c + (512 - 8 ^ L)) / 8 % 8 = f) || decide ((c + (512 - 8 ^ L)) / 64 = f))) := by decide +kernel
theorem re_pl19 {post : Int32 → Prop} {J : Int32 → Int32 → Prop} {p : Int32} {kd fa fb sz wk wa wb ng : Nat → Int32} {w q : Nat → Int64} {bd tn : Nat → Int32} {n : Nat → Nat} {r f t : Nat} (hI : re_I n p kd fa fb sz wk wa wb ng w) (hr : r < 3) (hf : f < 7)
    (H : J (nI (t + re_cn (fun c => re_S p kd fa fb wk wa wb ng r (n r) c && re_hd c (n r) f) (8 ^ n r))) (nI (r + 1))) :
    ∃ m, wL_places_19 post J (nI f) (nI r) (nI (re_cn (re_S p kd fa fb wk wa wb ng r (n r)) (8 ^ n r))) p kd fa fb sz wk wa wb ng w q bd tn m (nI t) 0 := by
  have hL := (hI.1 r hr).1
  have h8 := re_p8 hL
  generalize hPd : re_S p kd fa fb wk wa wb ng r (n r) = P at H
  have b1 := re_cn_le P (8 ^ n r)
  generalize hQ : (fun c => P c && re_hd c (n r) f) = Q at H
  refine pk_loop (σ := Nat) (fun m k e => wL_places_19 post J (nI f) (nI r) (nI (re_cn P (8 ^ n r))) p kd fa fb sz wk wa wb ng w q bd tn m (nI (t + re_cn Q e)) (nI k)) (fun k e => e ≤ 8 ^ n r ∧ re_cn P e = k) (re_cn P (8 ^ n r)) 0 0 (by omega) ⟨by omega, rfl⟩ ?_ ?_
  · intro m e he
    refine pk_le _ _ (fun _ => nm_r (nI_1 r) ?_) (fun z => absurd z (by omega)) rfl rfl (by omega) (by omega)
    obtain ⟨d, hd⟩ : ∃ d, 8 ^ n r = e + d := ⟨8 ^ n r - e, by omega⟩
    have fl : re_cn Q (e + d) = re_cn Q e := by
      rw [← hQ]
      exact re_cn_flat e d (by rw [← hd]; exact he.2.symm)
    rw [hd, fl] at H
    exact H
  · intro m k e hk he hw
    obtain ⟨c, hc, hPc, hck⟩ := re_cn_ex hk
    have ec : e ≤ c := by
      rcases Nat.lt_or_ge c e with z | z
      · have mo := re_cn_mono' P (show c + 1 ≤ e by omega)
        rw [re_cn_t hPc] at mo
        omega
      · exact z
    have fl : re_cn Q c = re_cn Q e := by
      obtain ⟨d, rfl⟩ : ∃ d, c = e + d := ⟨c - e, by omega⟩
      rw [← hQ]
      exact re_cn_flat e d (by omega)
    have T : wL_places_19 post J (nI f) (nI r) (nI (re_cn P (8 ^ n r))) p kd fa fb sz wk wa wb ng w q bd tn m (nI (t + re_cn Q (c + 1))) (nI (k + 1)) := hw (c + 1) ⟨by omega, by rw [re_cn_t hPc, hck]⟩
    have eQ : Q c = re_hd c (n r) f := by rw [← hQ]; show (P c && _) = _; rw [hPc, Bool.true_and]
    have hm := re_hdm (n r) (by omega) c hc f hf
    have T1 : re_hd c (n r) f = true → wL_places_19 post J (nI f) (nI r) (nI (re_cn P (8 ^ n r))) p kd fa fb sz wk wa wb ng w q bd tn m (nI (t + re_cn Q e + 1)) (nI (k + 1)) := by
      intro g
      rw [re_cn_t (eQ.trans g), fl] at T
      exact T
    have T0 : re_hd c (n r) f = false → wL_places_19 post J (nI f) (nI r) (nI (re_cn P (8 ^ n r))) p kd fa fb sz wk wa wb ng w q bd tn m (nI (t + re_cn Q e)) (nI (k + 1)) := by
      intro g
      rw [re_cn_f (eQ.trans g), fl] at T
      exact T
    refine pk_le (re_cn P (8 ^ n r)) k (fun z => absurd z (by omega)) (fun _ => re_match hI hr (by omega) ?_)
    rw [hPd, re_fm_hit hc hPc hck]
    have hlt : c + (512 - 8 ^ n r) < 512 := by omega
    generalize c + (512 - 8 ^ n r) = M at hm hlt
    have P64 : re_hd c (n r) f = true → wL_places_64 post J (wL_places_19 post J (nI f) (nI r) (nI (re_cn P (8 ^ n r))) p kd fa fb sz wk wa wb ng w q bd tn m) (nI f) (nI (t + re_cn Q e)) (nI r) (nI (re_cn P (8 ^ n r))) (nI k) p kd fa fb sz wk wa wb ng w q bd tn := by
      intro g
      exact br_f (show ¬ (1 : Int32) = 0 by decide) (nm_r (nI_1 _) (nm_r (nI_1 k) (T1 g)))
    rw [pk_andN (show M < 2 ^ 32 by omega) (m := 7) 3 (by decide), pk_shrN (show M < 2 ^ 31 by omega) ((3 : Int32) &&& 31) 3 (by decide), pk_andN (show M / 2 ^ 3 < 2 ^ 32 by omega) (m := 7) 3 (by decide), pk_shrN (show M < 2 ^ 31 by omega) ((6 : Int32) &&& 31) 6 (by decide)]
    refine pk_eq (M % 8) f (fun z => P64 (by rw [hm, decide_eq_true z]; rfl)) (fun z1 => pk_eq (M / 8 % 8) f (fun z => P64 (by rw [hm, decide_eq_true z, Bool.true_or, Bool.or_true])) (fun z2 => pk_eq (M / 64) f (fun z => P64 (by rw [hm, decide_eq_true z, Bool.or_true, Bool.or_true])) (fun z3 => ?_)))
    have g : re_hd c (n r) f = false := by rw [hm, decide_eq_false z1, decide_eq_false z2, decide_eq_false z3]; rfl
    exact br_t rfl (nm_r (nI_1 k) (T0 g))
theorem re_places {post : Int32 → Prop} {p : Int32} {kd fa fb sz wk wa wb ng : Nat → Int32} {w q : Nat → Int64} {bd tn : Nat → Int32} {n : Nat → Nat} {f : Nat} (hI : re_I n p kd fa fb sz wk wa wb ng w) (hf : f < 7)
    (H : post (nI (re_sum (fun j => re_cn (fun c => re_S p kd fa fb wk wa wb ng j (n j) c && re_hd c (n j) f) (8 ^ n j)) 3))) : wpL_places post (p, kd, fa, fb, sz, wk, wa, wb, ng, w, q, bd, tn) (nI f) := by
  unfold wpL_places
  refine pk_loop (σ := Unit) (fun m i _ => wL_places_4 post (nI f) p kd fa fb sz wk wa wb ng w q bd tn m (nI (re_sum (fun j => re_cn (fun c => re_S p kd fa fb wk wa wb ng j (n j) c && re_hd c (n j) f) (8 ^ n j)) i)) (nI i)) (fun _ _ => True) 3 0 () (by omega) trivial ?_ ?_
  · intro m _ _
    exact pk_le 3 3 (fun _ => H) (fun z => absurd z (by omega))
  · intro m i _ hi _ hw
    exact pk_le 3 i (fun z => absurd z (by omega)) (fun _ => re_matches hI hi (re_pl19 hI hi hf (hw () trivial)))
end
section
/-! ===== the law's own methods ===== -/
theorem re_neg1 {m : Nat} (h : m < 2 ^ 31) : (-1 : Int32) < nI m := by
  rw [Int32.lt_iff_toInt_lt, nI_toInt h]
  have e : (-1 : Int32).toInt = -1 := by decide
  omega
theorem re_ruleL {post : Int32 → Prop} {p : Int32} {kd fa fb sz wk wa wb ng : Nat → Int32} {w q : Nat → Int64} {bd tn : Nat → Int32} {n : Nat → Nat} {r : Nat} (hI : re_I n p kd fa fb sz wk wa wb ng w) (hr : r < 3) (H : post 1) : wpL_rule post (p, kd, fa, fb, sz, wk, wa, wb, ng, w, q, bd, tn) (nI r) := by
  have h8 := re_p8 (hI.1 r hr).1
  have b1 := re_cn_le (re_S p kd fa fb wk wa wb ng r (n r)) (8 ^ n r)
  have R50 : wL_rule_50 post (nI r) (nI (re_cn (re_S p kd fa fb wk wa wb ng r (n r)) (8 ^ n r))) p kd fa fb sz wk wa wb ng w q bd tn := by
    unfold wL_rule_50
    refine re_conds hI hr ?_
    refine re_match hI hr (by omega) ?_
    rw [re_fm_miss (Nat.le_refl _)]
    refine br_t rfl ?_
    refine re_part (L := 0) hI hr (by omega) ?_
    refine br_t (show nI (re_cn (re_S p kd fa fb wk wa wb ng r 0) (8 ^ 0)) = 1 from rfl) ?_
    refine re_part hI hr (Nat.le_refl _) ?_
    refine br_t rfl ?_
    refine re_ready hI ?_
    by_cases c0 : 0 < re_cn (re_S p kd fa fb wk wa wb ng r (n r)) (8 ^ n r)
    · refine br_t ((re_hb1 _ (by omega)).mpr ?_) ?_
      · rw [re_rd_h _ 3 (by omega), decide_eq_true hr, Bool.true_and]
        exact decide_eq_true c0
      · exact pk_le (re_cn (re_S p kd fa fb wk wa wb ng r (n r)) (8 ^ n r)) 0 (fun z => absurd z (by omega)) (fun _ => br_t rfl H)
    · refine br_f (fun z => ?_) ?_
      · have t := (re_hb1 _ (by omega)).mp z
        rw [re_rd_h _ 3 (by omega), decide_eq_true hr, Bool.true_and] at t
        exact c0 (of_decide_eq_true t)
      · exact pk_le (re_cn (re_S p kd fa fb wk wa wb ng r (n r)) (8 ^ n r)) 0 (fun _ => br_t rfl H) (fun z => absurd z c0)
  unfold wpL_rule
  refine re_matches hI hr ?_
  generalize hPd : re_S p kd fa fb wk wa wb ng r (n r) = P at b1 R50
  refine pk_loop (σ := Int32) (fun m k l => wL_rule_11 post (nI r) (nI (re_cn P (8 ^ n r))) p kd fa fb sz wk wa wb ng w q bd tn m l (nI k))
    (fun k l => (k = 0 ∧ l = -1) ∨ ∃ c, c < 8 ^ n r ∧ P c = true ∧ re_cn P c + 1 = k ∧ l = nI (c + (512 - 8 ^ n r))) (min (re_cn P (8 ^ n r)) 40) 0 (-1) (by omega) (Or.inl ⟨rfl, rfl⟩) ?_ ?_
  · intro m l _
    exact pk_le (re_cn P (8 ^ n r)) (min (re_cn P (8 ^ n r)) 40) (fun _ => R50) (fun z => pk_le 40 (min (re_cn P (8 ^ n r)) 40) (fun _ => R50) (fun z2 => absurd z2 (by omega)))
  · intro m k l hk hl hw
    refine pk_le (re_cn P (8 ^ n r)) k (fun z => absurd z (by omega)) (fun _ => pk_le 40 k (fun z => absurd z (by omega)) (fun _ => re_match hI hr (by omega) ?_))
    obtain ⟨c, hc, hPc, hck⟩ := re_cn_ex (show k < re_cn P (8 ^ n r) by omega)
    rw [hPd, re_fm_hit hc hPc hck]
    refine br_t ?_ (nm_r (nI_1 k) (hw _ (Or.inr ⟨c, hc, hPc, by omega, rfl⟩)))
    rcases hl with ⟨_, rfl⟩ | ⟨d, hd, hPd', hdk, rfl⟩
    · exact re_neg1 (by omega)
    · have dc : d < c := by
        rcases Nat.lt_or_ge d c with z | z
        · exact z
        · have mo := re_cn_mono' P z
          omega
      exact nI_lt (by omega) (by omega)
theorem re_effect {post : Int32 → St1 → Prop} {p : Int32} {kd fa fb sz wk wa wb ng : Nat → Int32} {w q : Nat → Int64} {bd tn : Nat → Int32} {n : Nat → Nat} {r : Nat} {k a b : Int32} (hI : re_I n p kd fa fb sz wk wa wb ng w) (hr : r < 3) (hk : ¬ k < 0 ∧ ¬ 2 < k) (ha : ¬ a < 0 ∧ ¬ 3 < a) (hb : ¬ b < 0 ∧ ¬ 3 < b)
    (H1 : ∀ f, f < 7 → re_h p f = false → (∀ g, g < f → re_h p g = true) → ∀ w' q' b' t', re_I n p (upd kd f k.toInt8.toInt32) (upd fa f a.toInt8.toInt32) (upd fb f b.toInt8.toInt32) sz wk wa wb ng w' →
      post (nI (re_cn (re_S (p ||| ((1 : Int32) <<< (nI f &&& 31))) (upd kd f k.toInt8.toInt32) (upd fa f a.toInt8.toInt32) (upd fb f b.toInt8.toInt32) wk wa wb ng r (n r)) (8 ^ n r)) - nI (re_cn (re_S p kd fa fb wk wa wb ng r (n r)) (8 ^ n r)))
        (p, upd kd f k.toInt8.toInt32, upd fa f a.toInt8.toInt32, upd fb f b.toInt8.toInt32, sz, wk, wa, wb, ng, w', q', b', t'))
    (H2 : (∀ g, g < 7 → re_h p g = true) → post (-1000) (p, kd, fa, fb, sz, wk, wa, wb, ng, w, q, bd, tn)) : wpX_effect post (p, kd, fa, fb, sz, wk, wa, wb, ng, w, q, bd, tn) (nI r) k a b := by
  unfold wpX_effect
  refine re_rule hr ?_
  refine br_f (show ¬ (1 : Int32) = 0 by decide) ?_
  refine re_fok hk ha hb ?_
  refine br_f (show ¬ (1 : Int32) = 0 by decide) (br_c (fun e => H2 ((re_h_127 hI.2.2.1).mp e)) (fun e => ?_))
  refine re_matches hI hr ?_
  refine re_add hI hk ha hb (fun f hf h hl w' q' b' t' hI' => ?_) (fun h => absurd ((re_h_127 hI.2.2.1).mpr h) e)
  refine re_matches hI' hr ?_
  refine re_rem hI' hf (fun _ w2 q2 b2 t2 hI2 => ?_) (fun h' => ?_)
  · rw [re_h_back hf h] at hI2 ⊢
    exact H1 f hf h hl w2 q2 b2 t2 hI2
  · rw [re_h_add _ (by omega), decide_eq_true rfl, Bool.or_true] at h'
    exact absurd h' (by decide)
theorem re_uu (g : Nat → Int32) (f : Nat) (x : Int32) : upd (upd g f x) f x = upd g f x := by
  funext j
  by_cases e : j = f
  · rw [e, pk_us, pk_us]
  · rw [pk_un e]
theorem re_eff {post : Int32 → St1 → Prop} {p : Int32} {kd fa fb sz wk wa wb ng : Nat → Int32} {w q : Nat → Int64} {bd tn : Nat → Int32} {n : Nat → Nat} {r : Nat} {k a b : Int32} (hI : re_I n p kd fa fb sz wk wa wb ng w) (hr : r < 3) (hk : ¬ k < 0 ∧ ¬ 2 < k) (ha : ¬ a < 0 ∧ ¬ 3 < a) (hb : ¬ b < 0 ∧ ¬ 3 < b)
    (H : ∀ kd' fa' fb' w' q' b' t', re_I n p kd' fa' fb' sz wk wa wb ng w' → post 1 (p, kd', fa', fb', sz, wk, wa, wb, ng, w', q', b', t')) : wpL_effects post (p, kd, fa, fb, sz, wk, wa, wb, ng, w, q, bd, tn) (nI r) k a b := by
  unfold wpL_effects
  refine re_effect hI hr hk ha hb (fun f hf h hl w1 q1 b1 t1 hI1 => ?_) (fun h => ?_)
  · have hS : re_S p (upd kd f k.toInt8.toInt32) (upd fa f a.toInt8.toInt32) (upd fb f b.toInt8.toInt32) wk wa wb ng r (n r) = re_S p kd fa fb wk wa wb ng r (n r) := by
      funext c
      refine re_S_c (n r) (fun i _ => ⟨⟨rfl, rfl, rfl⟩, rfl⟩) (fun _ _ => rfl) (fun g hg e => ?_) c
      have gf : g ≠ f := fun z => absurd ((z ▸ e : re_h p f = true).symm.trans h) (by decide)
      exact ⟨pk_un gf, pk_un gf, pk_un gf⟩
    refine re_matches hI1 hr ?_
    refine re_match (k := 0) hI1 hr (by omega) ?_
    refine re_add hI1 hk ha hb (fun f2 hf2 h2 hl2 w2 q2 b2 t2 hI2 => ?_) (fun h' => absurd ((h' f hf).symm.trans h) (by decide))
    have ef : f2 = f := by
      rcases Nat.lt_trichotomy f2 f with z | z | z
      · exact absurd ((hl f2 z).symm.trans h2) (by decide)
      · exact z
      · exact absurd ((hl2 f z).symm.trans h) (by decide)
    subst ef
    rw [re_uu kd, re_uu fa, re_uu fb] at hI2 ⊢
    refine re_matches hI2 hr ?_
    refine br_t (nI_pos' (by omega)) ?_
    refine re_rem hI2 hf (fun _ w3 q3 b3 t3 hI3 => ?_) (fun h' => ?_)
    · rw [re_h_back hf h] at hI3 ⊢
      refine br_t (by rw [hS]) ?_
      refine re_matches hI3 hr (br_t rfl ?_)
      refine re_match (k := 0) hI3 hr (by omega) (br_t rfl ?_)
      exact H _ _ _ w3 q3 b3 t3 hI3
    · rw [re_h_add _ (by omega), decide_eq_true rfl, Bool.or_true] at h'
      exact absurd h' (by decide)
  · refine re_matches hI hr ?_
    refine re_match (k := 0) hI hr (by omega) ?_
    refine re_add hI hk ha hb (fun f hf h' => absurd ((h f hf).symm.trans h') (by decide)) (fun _ => ?_)
    refine re_matches hI hr ?_
    exact br_f (by decide) (br_t rfl (H kd fa fb w q bd tn hI))
theorem re_law {xs : Nat → Int32} {L kc ks : Nat} (hL : L ≤ 260) (m : Nat) : ∀ (k : Nat) (n : Nat → Nat) (p : Int32) (kd fa fb sz wk wa wb ng : Nat → Int32) (w q : Nat → Int64) (bd tn : Nat → Int32),
    k ≤ L + 2 → L + 2 - k < m → re_I n p kd fa fb sz wk wa wb ng w → wL_law_10 (fun r => r = 1) L xs kc ks m (nI k) p kd fa fb sz wk wa wb ng w q bd tn := by
  induction m with
  | zero => intro k n p kd fa fb sz wk wa wb ng w q bd tn _ h; omega
  | succ m ih =>
    intro k n p kd fa fb sz wk wa wb ng w q bd tn hk hm hI
    refine pk_le L (k + 1) (fun _ => rfl) (fun h => ?_) rfl (nI_1 k) (by omega) (by omega)
    refine ⟨pk_in k L (by omega), nm_e ⟨pk_in k L (by omega), pk_in (k + 1) L (by omega) (nI_1 k), ?_⟩⟩
    generalize (xs (nI k).toNatClampNeg) >>> ((4 : Int32) &&& 31) = X
    refine re_call hI (fun n' p' kd' fa' fb' sz' wk' wa' wb' ng' w' q' b' t' hI' => ?_)
    obtain ⟨r, hr, er⟩ := re_r3 X
    obtain ⟨f, hf, ef⟩ := re_r7 (X >>> ((8 : Int32) &&& 31))
    obtain ⟨kk, hkk, ek⟩ := re_r3 (X >>> ((11 : Int32) &&& 31))
    have e2 : nI k + 2 = nI (k + 2) := by
      show nI k + nI 2 = _
      rw [nI_add]
    refine ⟨by decide, nm_r er ⟨by decide, nm_r ef ?_⟩⟩
    have Z : ∀ z, (re_h p' f = true → nI (re_sum (fun j => re_cn (fun c => re_S p' kd' fa' fb' wk' wa' wb' ng' j (n' j) c && re_hd c (n' j) f) (8 ^ n' j)) 3) = z) → (re_h p' f = false → -1 = z) →
        wL_law_95 (fun r => r = 1) L xs (wL_law_10 (fun r => r = 1) L xs kc ks m) (nI k) X (nI r) (nI f) z kc ks p' kd' fa' fb' sz' wk' wa' wb' ng' w' q' b' t' := by
      intro z h1 h0
      unfold wL_law_95
      have E : wpL_effects (fun r_99 u => match u with | (p2, x1, x2, x3, x4, x5, x6, x7, x8, x9, x10, x11, x12) => ((r_99 = 0 → ((fun r : Int32 => r = 1) 0)) ∧ (¬ r_99 = 0 → (∀ y : Int32, y = nI k + 2 → (wL_law_10 (fun r => r = 1) L xs kc ks m y p2 x1 x2 x3 x4 x5 x6 x7 x8 x9 x10 x11 x12)))))
          (p', kd', fa', fb', sz', wk', wa', wb', ng', w', q', b', t') (nI r) (((X >>> ((11 : Int32) &&& 31)) &&& 255) - ((X >>> ((11 : Int32) &&& 31)) &&& 255) / 3 * 3) ((X >>> ((19 : Int32) &&& 31)) &&& 3) ((X >>> ((21 : Int32) &&& 31)) &&& 1) := by
        rw [ek]
        exact re_eff hI' hr (re_ok2 hkk) (re_ok3 _) (re_ok1 _) (fun kd2 fa2 fb2 w2 q2 b2 t2 hI2 => br_f (show ¬ (1 : Int32) = 0 by decide) (nm_r e2 (ih (k + 2) n' p' kd2 fa2 fb2 sz' wk' wa' wb' ng' w2 q2 b2 t2 (by omega) (by omega) hI2)))
      refine re_ruleL hI' hr ?_
      refine br_f (show ¬ (1 : Int32) = 0 by decide) ?_
      exact re_uses hI' hf (fun h => br_t (h0 h) ⟨by decide, E⟩) (fun h => br_t (h1 h) ⟨by decide, E⟩)
    refine br_c (fun h => ?_) (fun h => ?_)
    · have hh := (re_hb1 p' (show f < 32 by omega)).mp h
      exact br_f (show ¬ (1 : Int32) = 0 by decide) (re_places hI' hf (Z _ (fun _ => rfl) (fun z => absurd (hh.symm.trans z) (by decide))))
    · exact br_t rfl (Z (-1) (fun z => absurd ((re_hb1 p' (show f < 32 by omega)).mpr z) h) (fun _ => rfl))
theorem re_init {post : St1 → Prop} (H : ∀ w : Nat → Int64, (∀ r, r < 3 → w (r * 11) = 1) → post (0, fun _ => 0, fun _ => 0, fun _ => 0, fun _ => 0, fun _ => 0, fun _ => 0, fun _ => 0, fun _ => 0, w, fun _ => 0, fun _ => 0, fun _ => 0)) : wpX_init post 12 132 0 := by
  unfold wpX_init
  refine ⟨by omega, by omega, by omega, by omega, by omega, by omega, by omega, by omega, by omega, by omega, by omega, by omega, by omega, by omega, by omega, by omega, by omega, by omega, by omega, by omega, by omega, by omega, by omega, by omega, ?_⟩
  refine pk_loop (fun m i s => wX_init_99 post 12 132 12 132 0 m (nI i) (fun _ => 0) (fun _ => 0) (fun _ => 0) (fun _ => 0) (fun _ => 0) (fun _ => 0) (fun _ => 0) (fun _ => 0) s (fun _ => 0) (fun _ => 0) (fun _ => 0))
    (fun i s => ∀ r, r < i → s (r * 11) = 1) 3 0 (fun _ => 0) (by omega) (fun r h => absurd h (by omega)) ?_ ?_
  · intro m s hs
    exact pk_le 3 3 (fun _ => H s hs) (fun z => absurd z (by omega))
  · intro m i s hi hs hw
    have e0 : nI i * 11 = nI (i * 11) := by
      show nI i * nI 11 = _
      rw [pk_mul]
    refine pk_le 3 i (fun z => absurd z (by omega)) (fun _ => ?_)
    rw [e0, nI_clamp (show i * 11 < 2 ^ 31 by omega)]
    refine ⟨pk_in (i * 11) 33 (by omega), nm_e (nm_r (nI_1 i) (hw _ (fun r hr => ?_)))⟩
    by_cases e : r = i
    · rw [e, pk_uLs]
    · rw [pk_uLn (by omega)]
      exact hs r (by omega)
end
section
theorem i_vc (xs : Nat → Int32) (L : Nat) (hL : L ≤ 260) : wpL_law (fun r => r = 1) L xs := by
  refine ⟨12, 132, by omega, by omega, ?_⟩
  refine re_init (fun w hw => ?_)
  refine ⟨L + 3, re_law hL (L + 3) 0 (fun _ => 0) 0 _ _ _ _ _ _ _ _ w _ _ _ (by omega) (by omega) ⟨fun r _ => ⟨Nat.zero_le 3, rfl⟩, fun c _ => ⟨re_okd_nI (j := 0) (by omega), re_okd_nI (j := 0) (by omega)⟩, fun g _ => re_h_0 g, ?_⟩⟩
  intro r hr L' hL' c hc
  have e : L' = 0 := Nat.le_zero.mp hL'
  subst e
  have e2 : c = 0 := by
    have : c < 1 := hc
    omega
  subst e2
  show (w (r * 11)).toBitVec.getLsbD 0 = true
  rw [hw r hr]
  exact re_one0
end
