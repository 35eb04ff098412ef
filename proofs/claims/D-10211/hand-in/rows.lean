section
/-! ===== Int32 by its bits: bt x i ===== -/
def bt (x : Int32) (i : Nat) : Bool := x.toBitVec.getLsbD i
theorem b_ext {x y : Int32} (h : ∀ i, i < 32 → bt x i = bt y i) : x = y := Int32.toBitVec_inj.mp (BitVec.eq_of_getLsbD_eq (fun i hi => h i hi))
theorem b_or (x y : Int32) (i : Nat) : bt (x ||| y) i = (bt x i || bt y i) := by unfold bt; rw [Int32.toBitVec_or, BitVec.getLsbD_or]
theorem b_and (x y : Int32) (i : Nat) : bt (x &&& y) i = (bt x i && bt y i) := by unfold bt; rw [Int32.toBitVec_and, BitVec.getLsbD_and]
theorem b_xor (x y : Int32) (i : Nat) : bt (x ^^^ y) i = (bt x i ^^ bt y i) := by unfold bt; rw [Int32.toBitVec_xor, BitVec.getLsbD_xor]
theorem b_big {x : Int32} {i : Nat} (h : 32 ≤ i) : bt x i = false := BitVec.getLsbD_of_ge _ _ h
theorem b_255 (i : Nat) : bt 255 i = decide (i < 8) := by
  rcases Nat.lt_or_ge i 32 with h | h
  · exact (by decide +kernel : ∀ i, i < 32 → bt 255 i = decide (i < 8)) i h
  · rw [b_big h, decide_eq_false (by omega)]
theorem b_65535 (i : Nat) : bt 65535 i = decide (i < 16) := by
  rcases Nat.lt_or_ge i 32 with h | h
  · exact (by decide +kernel : ∀ i, i < 32 → bt 65535 i = decide (i < 16)) i h
  · rw [b_big h, decide_eq_false (by omega)]
theorem b_m1 : ∀ i, i < 32 → bt (-1) i = true := by decide +kernel
theorem b_0 (i : Nat) : bt 0 i = false := BitVec.getLsbD_zero
theorem s_l : ∀ n, n < 32 → ((nI n &&& 31).toBitVec.smod 32).toNat = n := by decide +kernel
theorem s_u : ∀ n, n < 32 → (((nI n).toUInt32 &&& Int32.toUInt32 31).toBitVec % 32).toNat = n := by decide +kernel
theorem b_shl (n : Nat) (hn : n < 32) (x : Int32) {i : Nat} (hi : i < 32) : bt (x <<< (nI n &&& 31)) i = (decide (n ≤ i) && bt x (i - n)) := by
  unfold bt
  rw [Int32.toBitVec_shiftLeft]
  show (x.toBitVec <<< ((nI n &&& 31).toBitVec.smod 32).toNat).getLsbD i = _
  rw [s_l n hn, BitVec.getLsbD_shiftLeft]
  rcases Nat.lt_or_ge i n with h | h
  · simp [h, Nat.not_le.mpr h]
  · simp [hi, h, Nat.not_lt.mpr h]
theorem b_ushr (n : Nat) (hn : n < 32) (x : Int32) (i : Nat) : bt ((x.toUInt32 >>> ((nI n).toUInt32 &&& Int32.toUInt32 31)).toInt32) i = bt x (n + i) := by
  show (x.toUInt32 >>> ((nI n).toUInt32 &&& Int32.toUInt32 31)).toBitVec.getLsbD i = x.toUInt32.toBitVec.getLsbD (n + i)
  rw [UInt32.toBitVec_shiftRight]
  show (x.toUInt32.toBitVec >>> (((nI n).toUInt32 &&& Int32.toUInt32 31).toBitVec % 32).toNat).getLsbD i = _
  rw [s_u n hn, BitVec.getLsbD_ushiftRight]
theorem b_sshr (n : Nat) (hn : n < 32) (x : Int32) {i : Nat} (hi : i < 32) : bt (x >>> (nI n &&& 31)) i = if n + i < 32 then bt x (n + i) else bt x 31 := by
  unfold bt
  rw [Int32.toBitVec_shiftRight]
  show (x.toBitVec.sshiftRight ((nI n &&& 31).toBitVec.smod 32).toNat).getLsbD i = _
  rw [s_l n hn, BitVec.getLsbD_sshiftRight, BitVec.msb_eq_getLsbD_last]
  simp [hi]
theorem b_shl8 (x : Int32) {i : Nat} (hi : i < 32) : bt (x <<< ((8 : Int32) &&& 31)) i = (decide (8 ≤ i) && bt x (i - 8)) := b_shl 8 (by omega) x hi
theorem b_shl16 (x : Int32) {i : Nat} (hi : i < 32) : bt (x <<< ((16 : Int32) &&& 31)) i = (decide (16 ≤ i) && bt x (i - 16)) := b_shl 16 (by omega) x hi
theorem b_shl24 (x : Int32) {i : Nat} (hi : i < 32) : bt (x <<< ((24 : Int32) &&& 31)) i = (decide (24 ≤ i) && bt x (i - 24)) := b_shl 24 (by omega) x hi
theorem b_sshr8 (x : Int32) {i : Nat} (hi : i < 32) : bt (x >>> ((8 : Int32) &&& 31)) i = if 8 + i < 32 then bt x (8 + i) else bt x 31 := b_sshr 8 (by omega) x hi
end
section
/-! ===== sets of machines as ints: bits ===== -/
/-- a set of the eight machines -/
def qd_V (x : Int32) : Prop := ∃ v : Nat, v < 256 ∧ x = nI v
/-- s is part of x -/
def qd_S (s x : Int32) : Prop := s &&& (x ^^^ (-1)) = 0
theorem qd_S_iff {s x : Int32} : qd_S s x ↔ ∀ i, i < 32 → bt s i = true → bt x i = true := by
  unfold qd_S
  constructor
  · intro h i hi hs
    have e : bt (s &&& (x ^^^ (-1))) i = false := by rw [h, b_0]
    rw [b_and, b_xor, b_m1 i hi, hs] at e
    revert e
    cases bt x i <;> decide
  · intro h
    apply b_ext
    intro i hi
    rw [b_and, b_xor, b_m1 i hi, b_0]
    have t := h i hi
    revert t
    cases bt s i <;> cases bt x i <;> decide
theorem qd_Z_iff {s x : Int32} : s &&& x = 0 ↔ ∀ i, i < 32 → bt s i = true → bt x i = false := by
  constructor
  · intro h i hi hs
    have e : bt (s &&& x) i = false := by rw [h, b_0]
    rw [b_and, hs] at e
    revert e
    cases bt x i <;> decide
  · intro h
    apply b_ext
    intro i hi
    rw [b_and, b_0]
    have t := h i hi
    revert t
    cases bt s i <;> cases bt x i <;> decide
theorem qd_N_iff {s x : Int32} : ¬ s &&& x = 0 ↔ ∃ i, i < 32 ∧ bt s i = true ∧ bt x i = true := by
  rw [qd_Z_iff]
  constructor
  · intro h
    apply Classical.byContradiction
    intro q
    apply h
    intro i hi hs
    rcases Bool.eq_false_or_eq_true (bt x i) with e | e
    · exact absurd ⟨i, hi, hs, e⟩ q
    · exact e
  · rintro ⟨i, hi, h1, h2⟩ q
    rw [q i hi h1] at h2
    exact absurd h2 (by decide)
theorem qd_bN (v i : Nat) : bt (nI v) i = (decide (i < 32) && v.testBit i) := by
  show (BitVec.ofNat 32 v).getLsbD i = _
  rw [BitVec.getLsbD_ofNat]
theorem qd_tb {v i : Nat} (hv : v < 256) (h : v.testBit i = true) : i < 8 := by
  rcases Nat.lt_or_ge i 8 with z | z
  · exact z
  · have e : v < 2 ^ i := Nat.lt_of_lt_of_le hv (Nat.pow_le_pow_right (by decide) z : 2 ^ 8 ≤ 2 ^ i)
    rw [Nat.testBit_lt_two_pow e] at h
    exact absurd h (by decide)
theorem qd_V_bt {x : Int32} (h : qd_V x) {i : Nat} (hb : bt x i = true) : i < 8 := by
  obtain ⟨v, hv, rfl⟩ := h
  rw [qd_bN, Bool.and_eq_true] at hb
  exact qd_tb hv hb.2
theorem qd_V_of {x : Int32} (h : ∀ i, i < 32 → bt x i = true → i < 8) : qd_V x := by
  have e : x &&& 255 = x := by
    apply b_ext
    intro i hi
    rw [b_and, b_255]
    have t := h i hi
    revert t
    rcases Nat.lt_or_ge i 8 with z | z
    · rw [decide_eq_true z]
      exact fun _ => Bool.and_true _
    · rw [decide_eq_false (by omega)]
      intro t
      rcases Bool.eq_false_or_eq_true (bt x i) with q | q
      · exact absurd (t q) (by omega)
      · rw [q]
        rfl
  obtain ⟨j, hj, ej⟩ := pk_andE x (m := 255) 8 (by decide)
  exact ⟨j, hj, by rw [← e, ej]⟩
theorem qd_V_or {a b : Int32} (ha : qd_V a) (hb : qd_V b) : qd_V (a ||| b) := by
  apply qd_V_of
  intro i _ h
  rw [b_or, Bool.or_eq_true] at h
  rcases h with h | h
  · exact qd_V_bt ha h
  · exact qd_V_bt hb h
theorem qd_V_and {a b : Int32} (ha : qd_V a) : qd_V (a &&& b) := by
  apply qd_V_of
  intro i _ h
  rw [b_and, Bool.and_eq_true] at h
  exact qd_V_bt ha h.1
theorem qd_bit1 : ∀ m, m < 8 → ∀ i, i < 32 → bt ((1 : Int32) <<< (nI m &&& 31)) i = decide (i = m) := by decide +kernel
theorem qd_V_bit {m : Nat} (hm : m < 8) : qd_V ((1 : Int32) <<< (nI m &&& 31)) := by
  apply qd_V_of
  intro i hi h
  rw [qd_bit1 m hm i hi, decide_eq_true_eq] at h
  omega
theorem qd_V_n {v : Nat} (h : v < 256) : qd_V (nI v) := ⟨v, h, rfl⟩
theorem qd_V_0 : qd_V 0 := ⟨0, by omega, nI_0.symm⟩
theorem qd_V_c {x : Int32} (h : qd_V x) : x.toNatClampNeg < 256 ∧ x = nI x.toNatClampNeg := by
  obtain ⟨v, hv, rfl⟩ := h
  rw [nI_clamp (by omega)]
  exact ⟨hv, rfl⟩
theorem qd_S_r (x : Int32) : qd_S x x := qd_S_iff.mpr fun _ _ h => h
theorem qd_S_t {x y z : Int32} (h : qd_S x y) (g : qd_S y z) : qd_S x z :=
  qd_S_iff.mpr fun i hi q => qd_S_iff.mp g i hi (qd_S_iff.mp h i hi q)
theorem qd_S_0 (x : Int32) : qd_S 0 x := qd_S_iff.mpr fun i _ h => by
  rw [b_0] at h
  exact absurd h (by decide)
theorem qd_S_nat {v w : Nat} (h : v &&& w = v) : qd_S (nI v) (nI w) := by
  rw [qd_S_iff]
  intro i hi q
  rw [qd_bN, Bool.and_eq_true] at q ⊢
  refine ⟨q.1, ?_⟩
  have e := q.2
  rw [← h, Nat.testBit_and, Bool.and_eq_true] at e
  exact e.2
theorem qd_nat_S {v w : Nat} (hv : v < 256) (h : qd_S (nI v) (nI w)) : v &&& w = v := by
  apply Nat.eq_of_testBit_eq
  intro i
  rw [Nat.testBit_and]
  rcases Bool.eq_false_or_eq_true (v.testBit i) with e | e
  · have t := qd_S_iff.mp h i (by have := qd_tb hv e; omega) (by rw [qd_bN, e, decide_eq_true (by have := qd_tb hv e; omega)]; rfl)
    rw [qd_bN, Bool.and_eq_true] at t
    rw [t.2, e]
    rfl
  · rw [e]
    rfl
/-! ===== how many machines ===== -/
def qd_p (v : Nat) : Nat → Nat
  | 0 => 0
  | m + 1 => qd_p v m + v / 2 ^ m % 2
def qd_n (x : Int32) : Nat := qd_p x.toNatClampNeg 8
theorem qd_p_le (v m : Nat) : qd_p v m ≤ m := by
  induction m with
  | zero => exact Nat.le_refl 0
  | succ m ih =>
    show qd_p v m + v / 2 ^ m % 2 ≤ m + 1
    have := Nat.mod_lt (v / 2 ^ m) (show 2 > 0 by decide)
    omega
theorem qd_n_le (x : Int32) : qd_n x ≤ 8 := qd_p_le _ 8
theorem qd_n_nI {v : Nat} (h : v < 256) : qd_n (nI v) = qd_p v 8 := by
  unfold qd_n
  rw [nI_clamp (by omega)]
theorem qd_p_cmp : ∀ v, v < 256 → ∀ w, w < 256 → v &&& w = v → qd_p v 8 ≤ qd_p w 8 ∧ (qd_p v 8 = qd_p w 8 → v = w) := by decide +kernel
theorem qd_n_mono {s x : Int32} (hs : qd_V s) (hx : qd_V x) (h : qd_S s x) : qd_n s ≤ qd_n x := by
  obtain ⟨v, hv, rfl⟩ := hs
  obtain ⟨w, hw, rfl⟩ := hx
  rw [qd_n_nI hv, qd_n_nI hw]
  exact (qd_p_cmp v hv w hw (qd_nat_S hv h)).1
theorem qd_n_eq {s x : Int32} (hs : qd_V s) (hx : qd_V x) (h : qd_S s x) (e : qd_n s = qd_n x) : s = x := by
  obtain ⟨v, hv, rfl⟩ := hs
  obtain ⟨w, hw, rfl⟩ := hx
  rw [qd_n_nI hv, qd_n_nI hw] at e
  rw [(qd_p_cmp v hv w hw (qd_nat_S hv h)).2 e]
/-! ===== ranks and the pigeons ===== -/
/-- how many of the first c values lie below y -/
def qd_r (w : Nat → Nat) (y : Nat) : Nat → Nat
  | 0 => 0
  | c + 1 => qd_r w y c + (if w c < y then 1 else 0)
theorem qd_r_mono {w : Nat → Nat} {y z : Nat} (h : y ≤ z) (c : Nat) : qd_r w y c ≤ qd_r w z c := by
  induction c with
  | zero => exact Nat.le_refl 0
  | succ c ih =>
    show qd_r w y c + (if w c < y then 1 else 0) ≤ qd_r w z c + (if w c < z then 1 else 0)
    split <;> split <;> omega
theorem qd_r_lt {w : Nat → Nat} {y z j : Nat} (h1 : y ≤ w j) (h2 : w j < z) {c : Nat} (hj : j < c) : qd_r w y c < qd_r w z c := by
  induction c with
  | zero => omega
  | succ c ih =>
    show qd_r w y c + (if w c < y then 1 else 0) < qd_r w z c + (if w c < z then 1 else 0)
    by_cases e : j = c
    · subst e
      have := qd_r_mono (w := w) (show y ≤ z by omega) j
      rw [if_neg (by omega), if_pos h2]
      omega
    · have := ih (by omega)
      split <;> split <;> omega
theorem qd_r_le (w : Nat → Nat) (y c : Nat) : qd_r w y c ≤ c := by
  induction c with
  | zero => exact Nat.le_refl 0
  | succ c ih =>
    show qd_r w y c + (if w c < y then 1 else 0) ≤ c + 1
    split <;> omega
theorem qd_r_all {w : Nat → Nat} {y c : Nat} (h : ∀ j, j < c → w j < y) : qd_r w y c = c := by
  induction c with
  | zero => rfl
  | succ c ih =>
    show qd_r w y c + (if w c < y then 1 else 0) = c + 1
    rw [ih (fun j hj => h j (by omega)), if_pos (h c (by omega))]
theorem qd_r_0 (w : Nat → Nat) (c : Nat) : qd_r w 0 c = 0 := by
  induction c with
  | zero => rfl
  | succ c ih =>
    show qd_r w 0 c + (if w c < 0 then 1 else 0) = 0
    rw [ih, if_neg (by omega)]
theorem qd_r_none {w : Nat → Nat} {y c : Nat} (h : ∀ j, j < c → ¬ w j = y) : qd_r w (y + 1) c = qd_r w y c := by
  induction c with
  | zero => rfl
  | succ c ih =>
    show qd_r w (y + 1) c + (if w c < y + 1 then 1 else 0) = qd_r w y c + (if w c < y then 1 else 0)
    have := ih (fun j hj => h j (by omega))
    have := h c (by omega)
    split <;> split <;> omega
theorem qd_r_one {w : Nat → Nat} {y c : Nat} (inj : ∀ i j, i < c → j < c → w i = w j → i = j) : qd_r w (y + 1) c ≤ qd_r w y c + 1 := by
  induction c with
  | zero => exact Nat.zero_le _
  | succ c ih =>
    show qd_r w (y + 1) c + (if w c < y + 1 then 1 else 0) ≤ qd_r w y c + (if w c < y then 1 else 0) + 1
    by_cases e : w c = y
    · rw [qd_r_none (fun j hj q => absurd (inj j c (by omega) (by omega) (by omega)) (by omega))]
      split <;> split <;> omega
    · have := ih (fun i j hi hj => inj i j (by omega) (by omega))
      split <;> split <;> omega
theorem qd_r_y {w : Nat → Nat} {c : Nat} (inj : ∀ i j, i < c → j < c → w i = w j → i = j) (y : Nat) : qd_r w y c ≤ y := by
  induction y with
  | zero => rw [qd_r_0]; exact Nat.le_refl 0
  | succ y ih =>
    have := qd_r_one (y := y) inj
    omega
/-- different values below m: at most m of them -/
theorem qd_pig {w : Nat → Nat} {c m : Nat} (inj : ∀ i j, i < c → j < c → w i = w j → i = j) (h : ∀ j, j < c → w j < m) : c ≤ m := by
  have a := qd_r_y inj m
  rw [qd_r_all h] at a
  exact a
theorem qd_r_in {w : Nat → Nat} {c j : Nat} (hj : j < c) : qd_r w (w j) c < c := by
  have a := qd_r_lt (w := w) (y := w j) (z := w j + 1) (j := j) (Nat.le_refl _) (by omega) hj
  have b := qd_r_le w (w j + 1) c
  omega
/-- every rank is somebody's -/
theorem qd_r_sur {w : Nat → Nat} {c m : Nat} (inj : ∀ i j, i < c → j < c → w i = w j → i = j) (h : ∀ j, j < c → w j < m) {i : Nat} (hi : i < c) : ∃ j, j < c ∧ qd_r w (w j) c = i := by
  obtain ⟨y, hy, ly⟩ := pk_least (fun y => i < qd_r w y c) ⟨m, by rw [qd_r_all h]; exact hi⟩
  cases y with
  | zero =>
    have hy' : i < qd_r w 0 c := hy
    rw [qd_r_0] at hy'
    omega
  | succ y =>
    have hy' : i < qd_r w (y + 1) c := hy
    have h1 : ¬ i < qd_r w y c := ly y (by omega)
    have h2 := qd_r_one (y := y) inj
    by_cases q : ∃ j, j < c ∧ w j = y
    · obtain ⟨j, hj, e⟩ := q
      exact ⟨j, hj, by rw [e]; omega⟩
    · rw [qd_r_none (fun j hj e => q ⟨j, hj, e⟩)] at hy'
      omega
theorem qd_r_eq {w : Nat → Nat} {c i j : Nat} (hi : i < c) (hj : j < c) (e : qd_r w (w i) c = qd_r w (w j) c) : w i = w j := by
  rcases Nat.lt_trichotomy (w i) (w j) with z | z | z
  · have := qd_r_lt (w := w) (y := w i) (z := w j) (j := i) (Nat.le_refl _) z hi
    omega
  · exact z
  · have := qd_r_lt (w := w) (y := w j) (z := w i) (j := j) (Nat.le_refl _) z hj
    omega
end
section
/-! ===== seventy chains ===== -/
/-- the chain of a set, seven bits each (printed by chain.py) -/
def qd_T : Nat := 17306002764751339443145831543475286498221680741030594927802187818071878173702337064504272501749080561636319029591510811442929024446408575028355448768762894319163218173256768981454387873409784446159771049978261655249833346071910879064559265578532102155654658316335484346595972930807166128501936523802049846370711429387150229510575082080802676975123147149270509289492751853573118204923083949348947794791934302719140568322373804084081371271897494078052198850799475471762219738673952013683593824384076524570414700084127305698205833208283136
def qd_ch (v : Nat) : Nat := (qd_T >>> (7 * v)) % 128
theorem qd_ch_lt : ∀ v, v < 256 → qd_ch v < 70 := by decide +kernel
theorem qd_ch_in : ∀ v, v < 256 → ∀ w, w < 256 → qd_ch v = qd_ch w → (v &&& w = v ∨ w &&& v = w) := by decide +kernel
/-! ===== families ===== -/
/-- n sets of which none is part of another -/
def qd_F (n : Nat) (g : Nat → Int32) : Prop := (∀ i, i < n → qd_V (g i)) ∧ (∀ i j, i < n → j < n → qd_S (g i) (g j) → i = j)
/-- x holds one of them -/
def qd_U (n : Nat) (g : Nat → Int32) (x : Int32) : Prop := ∃ i, i < n ∧ qd_S (g i) x
/-- x meets all of them -/
def qd_H (n : Nat) (g : Nat → Int32) (x : Int32) : Prop := ∀ i, i < n → ¬ g i &&& x = 0
/-- of sets of which none holds another there are at most 70 -/
theorem qd_70 {n : Nat} {g : Nat → Int32} (h : qd_F n g) : n ≤ 70 := by
  refine qd_pig (w := fun i => qd_ch (g i).toNatClampNeg) (fun i j hi hj e => ?_) (fun j hj => qd_ch_lt _ (qd_V_c (h.1 j hj)).1)
  have vi := qd_V_c (h.1 i hi)
  have vj := qd_V_c (h.1 j hj)
  rcases qd_ch_in _ vi.1 _ vj.1 e with q | q
  · have t := qd_S_nat q
    rw [← vi.2, ← vj.2] at t
    exact h.2 i j hi hj t
  · have t := qd_S_nat q
    rw [← vi.2, ← vj.2] at t
    exact (h.2 j i hj hi t).symm
theorem qd_F_0 (g : Nat → Int32) : qd_F 0 g := ⟨fun i hi => absurd hi (by omega), fun i j hi => absurd hi (by omega)⟩
theorem qd_F_add {n : Nat} {g : Nat → Int32} {x : Int32} (h : qd_F n g) (hx : qd_V x) (h1 : ∀ a, a < n → ¬ qd_S (g a) x) (h2 : ∀ a, a < n → ¬ qd_S x (g a)) : qd_F (n + 1) (upd g n x) := by
  constructor
  · intro i hi
    by_cases e : i = n
    · rw [e, pk_us]
      exact hx
    · rw [pk_un e]
      exact h.1 i (by omega)
  · intro i j hi hj q
    by_cases e : i = n
    · by_cases e' : j = n
      · omega
      · rw [e, pk_us, pk_un e'] at q
        exact absurd q (h2 j (by omega))
    · by_cases e' : j = n
      · rw [e', pk_us, pk_un e] at q
        exact absurd q (h1 i (by omega))
      · rw [pk_un e, pk_un e'] at q
        exact h.2 i j (by omega) (by omega) q
theorem qd_F_c {n : Nat} {g g' : Nat → Int32} (e : ∀ i, i < n → g' i = g i) (h : qd_F n g) : qd_F n g' :=
  ⟨fun i hi => by rw [e i hi]; exact h.1 i hi, fun i j hi hj q => by rw [e i hi, e j hj] at q; exact h.2 i j hi hj q⟩
theorem qd_U_c {n : Nat} {g g' : Nat → Int32} (e : ∀ i, i < n → g' i = g i) (x : Int32) : qd_U n g' x ↔ qd_U n g x :=
  ⟨fun ⟨i, hi, h⟩ => ⟨i, hi, by rw [← e i hi]; exact h⟩, fun ⟨i, hi, h⟩ => ⟨i, hi, by rw [e i hi]; exact h⟩⟩
theorem qd_H_c {n : Nat} {g g' : Nat → Int32} (e : ∀ i, i < n → g' i = g i) (x : Int32) : qd_H n g' x ↔ qd_H n g x :=
  ⟨fun h i hi => by rw [← e i hi]; exact h i hi, fun h i hi => by rw [e i hi]; exact h i hi⟩
theorem qd_and_c (x y : Int32) : x &&& y = y &&& x := by
  apply b_ext
  intro i _
  rw [b_and, b_and, Bool.and_comm]
theorem qd_meet_up {s x y : Int32} (h : ¬ s &&& x = 0) (g : qd_S s y) : ¬ y &&& x = 0 := by
  obtain ⟨i, hi, h1, h2⟩ := qd_N_iff.mp h
  exact qd_N_iff.mpr ⟨i, hi, qd_S_iff.mp g i hi h1, h2⟩
theorem qd_H_up {n : Nat} {g : Nat → Int32} {x y : Int32} (h : qd_H n g x) (q : qd_S x y) : qd_H n g y := fun i hi => by
  rw [qd_and_c]
  exact qd_meet_up (by rw [qd_and_c]; exact h i hi) q
/-- the dual of the dual -/
theorem qd_dd {c c' : Nat} {g h : Nat → Int32} (hF : qd_F c g) (hU : ∀ y, qd_U c' h y ↔ qd_H c g y) (x : Int32) : qd_H c' h x ↔ qd_U c g x := by
  constructor
  · intro q
    apply Classical.byContradiction
    intro nu
    have t : qd_H c g (x ^^^ (-1)) := fun i hi e => nu ⟨i, hi, e⟩
    obtain ⟨p, hp, s⟩ := (hU _).mpr t
    exact q p hp (qd_Z_iff.mpr fun i hi e => by
      have a := qd_S_iff.mp s i hi e
      rw [b_xor, b_m1 i hi] at a
      revert a
      cases bt x i <;> decide)
  · rintro ⟨i, hi, s⟩ p hp
    have t : qd_H c g (h p) := (hU _).mp ⟨p, hp, qd_S_r _⟩
    rw [qd_and_c]
    exact qd_meet_up (t i hi) s
end
section
/-! ===== the methods that only read ===== -/
theorem qd_ix (f i : Nat) : 70 * nI f + nI i = nI (70 * f + i) := by
  show nI 70 * nI f + nI i = _
  rw [pk_mul, nI_add]
theorem qd_at {f i : Nat} (hf : f < 10) (hi : i < 70) : (70 * nI f + nI i).toNatClampNeg = 70 * f + i := by
  rw [qd_ix, nI_clamp (by omega)]
theorem qd_top {d k f : Nat} (h : f + k + 1 = d) : nI d - 1 - nI k = nI f := by
  show nI d - nI 1 - nI k = _
  rw [pk_sub (by omega), pk_sub (by omega), show d - 1 - k = f by omega]
theorem qd_a1 {a1 : Nat → Int32} {f : Nat} {y : Int32} (hf : f < 10) (ha : a1 f = y) : a1 (nI f).toNatClampNeg = y := by
  rw [nI_clamp (by omega)]
  exact ha
theorem qd_isF {post : Int32 → Prop} {G O : Int32} {a1 a2 a3 a4 : Nat → Int32} {d k : Nat} (hd : d ≤ 10) (hk : k < d) (H : post 1) : wpX_isFamily post (nI d, G, O, a1, a2, a3, a4) (nI k) :=
  pk_lt k 0 (fun z => absurd z (by omega)) (fun _ => pk_le d k (fun z => absurd z (by omega)) (fun _ => H))
theorem qd_isN {post : Int32 → Prop} {G O : Int32} {a1 a2 a3 a4 : Nat → Int32} {d k : Nat} (hd : d ≤ k) (hk : k < 256) (H : post 0) : wpX_isFamily post (nI d, G, O, a1, a2, a3, a4) (nI k) :=
  pk_lt k 0 (fun z => absurd z (by omega)) (fun _ => pk_le d k (fun _ => H) (fun z => absurd z (by omega)))
theorem qd_oX {v m : Nat} (hv : v < 256) (hm : m < 8) : nI (qd_p v m) + (((nI v).toUInt32 >>> ((nI m).toUInt32 &&& Int32.toUInt32 31)).toInt32 &&& 1) = nI (qd_p v (m + 1)) := by
  have h := Nat.div_le_self v (2 ^ m)
  rw [pk_ushrN (by omega) (nI m) m (s_u m (by omega)), pk_andN (by omega) (m := 1) 1 (by decide), nI_add]
  rfl
theorem qd_oL {v m : Nat} (hv : v < 256) (hm : m < 8) : nI (qd_p v m) + ((nI v >>> (nI m &&& 31)) &&& 1) = nI (qd_p v (m + 1)) := by
  have h := Nat.div_le_self v (2 ^ m)
  rw [pk_shrN (by omega) (nI m &&& 31) m (s_l m (by omega)), pk_andN (by omega) (m := 1) 1 (by decide), nI_add]
  rfl
theorem qd_onesX {post : Int32 → Prop} {v : Nat} (hv : v < 256) (H : post (nI (qd_p v 8))) : wpX_ones post () (nI v) :=
  pk_loop (σ := Unit) (fun n m _ => wX_ones_4 post (nI v) n (nI (qd_p v m)) (nI m)) (fun _ _ => True) 8 0 () (by omega) trivial
    (fun n _ _ => pk_le 8 8 (fun _ => H) (fun z => absurd z (by omega)))
    (fun n m _ hm _ hw => pk_le 8 m (fun z => absurd z (by omega)) (fun _ => nm_r (qd_oX hv hm) (nm_r (nI_1 m) (hw () trivial))))
theorem qd_onesL {post : Int32 → Prop} {x : Int32} (hx : qd_V x) (H : post (nI (qd_n x))) : wpL_ones post () x := by
  obtain ⟨v, hv, rfl⟩ := hx
  rw [qd_n_nI hv] at H
  exact pk_loop (σ := Unit) (fun n m _ => wL_ones_4 post (nI v) n (nI (qd_p v m)) (nI m)) (fun _ _ => True) 8 0 () (by omega) trivial
    (fun n _ _ => pk_le 8 8 (fun _ => H) (fun z => absurd z (by omega)))
    (fun n m _ hm _ hw => pk_le 8 m (fun z => absurd z (by omega)) (fun _ => nm_r (qd_oL hv hm) (nm_r (nI_1 m) (hw () trivial))))
theorem qd_mA {post : Int32 → Prop} {D G O : Int32} {a1 a2 a3 a4 : Nat → Int32} {f c : Nat} {x : Int32} (hf : f < 10) (hc : c ≤ 70) (ha : a1 f = nI c)
    (H1 : qd_H c (fun i => a2 (70 * f + i)) x → post 1) (H0 : ¬ qd_H c (fun i => a2 (70 * f + i)) x → post 0) : wpX_meetsAll post (D, G, O, a1, a2, a3, a4) (nI f) x :=
  pk_loop (σ := Unit) (fun n i _ => wX_meetsAll_2 post (nI f) x D G O a1 a2 a3 a4 n (nI i)) (fun i _ => ∀ j, j < i → ¬ a2 (70 * f + j) &&& x = 0) c 0 () (by omega) (fun j hj => absurd hj (by omega))
    (fun n _ h => ⟨pk_in f 10 hf, pk_le c c (fun _ => H1 h) (fun z => absurd z (by omega)) (qd_a1 hf ha)⟩)
    (fun n i _ hi h hw => ⟨pk_in f 10 hf, pk_le c i (fun z => absurd z (by omega)) (fun _ => ⟨pk_in (70 * f + i) 700 (by omega) (qd_ix f i), by
      rw [qd_at hf (by omega)]
      exact br_c (fun e => H0 (fun q => q i hi e)) (fun e => nm_r (nI_1 i) (hw () (lt_s h e)))⟩) (qd_a1 hf ha)⟩)
theorem qd_w25 {post : Int32 → Prop} {D G O : Int32} {a1 a2 a3 a4 : Nat → Int32} {f c : Nat} (hf : f < 10) (hc : c ≤ 70) (ha : a1 f = nI c)
    (H : ∀ w, w ≤ 9 → (∀ x, qd_V x → qd_H c (fun i => a2 (70 * f + i)) x → w ≤ qd_n x) → (w = 9 ∨ ∃ x, qd_V x ∧ qd_H c (fun i => a2 (70 * f + i)) x ∧ qd_n x = w) → post (nI w)) :
    ∃ n, wX_withstand_25 post (nI f) D G O a1 a2 a3 a4 n 9 0 :=
  pk_loop (fun n i b => wX_withstand_25 post (nI f) D G O a1 a2 a3 a4 n (nI b) (nI i))
    (fun i b => b ≤ 9 ∧ (∀ v, v < i → qd_H c (fun i => a2 (70 * f + i)) (nI v) → b ≤ qd_p v 8) ∧ (b = 9 ∨ ∃ v, v < 256 ∧ qd_H c (fun i => a2 (70 * f + i)) (nI v) ∧ qd_p v 8 = b)) 256 0 9 (by omega)
    ⟨Nat.le_refl 9, fun v hv => absurd hv (by omega), Or.inl rfl⟩
    (fun n b h => pk_le 256 256 (fun _ => H b h.1
      (fun x hx q => by
        obtain ⟨v, hv, rfl⟩ := hx
        rw [qd_n_nI hv]
        exact h.2.1 v hv q)
      (h.2.2.elim Or.inl (fun ⟨v, hv, q, e⟩ => Or.inr ⟨nI v, qd_V_n hv, q, by rw [qd_n_nI hv]; exact e⟩))) (fun z => absurd z (by omega)))
    (fun n i b hi h hw => by
      have hb := h.1
      have hp := qd_p_le i 8
      refine pk_le 256 i (fun z => absurd z (by omega)) (fun _ => qd_onesX hi ?_)
      refine pk_le b (qd_p i 8) (fun z => nm_r (nI_1 i) (hw b ⟨hb, lt_s h.2.1 (fun _ => z), h.2.2⟩)) (fun z => ?_)
      refine qd_mA hf hc ha (fun q => br_f (by decide) (nm_r (nI_1 i) (hw (qd_p i 8) ⟨by omega, lt_s (fun v hv q' => ?_) (fun _ => Nat.le_refl _), Or.inr ⟨i, hi, q, rfl⟩⟩))) (fun q => br_t rfl (nm_r (nI_1 i) (hw b ⟨hb, lt_s h.2.1 (fun q' => absurd q' q), h.2.2⟩)))
      have := h.2.1 v hv q'
      omega)
theorem qd_with {post : Int32 → Prop} {G O : Int32} {a1 a2 a3 a4 : Nat → Int32} {d k f c : Nat} (hd : d ≤ 10) (hk : f + k + 1 = d) (hc : c ≤ 70) (ha : a1 f = nI c)
    (H : ∀ w, w ≤ 9 → (∀ x, qd_V x → qd_H c (fun i => a2 (70 * f + i)) x → w ≤ qd_n x) → (w = 9 ∨ ∃ x, qd_V x ∧ qd_H c (fun i => a2 (70 * f + i)) x ∧ qd_n x = w) → post (nI w)) :
    wpX_withstand post (nI d, G, O, a1, a2, a3, a4) (nI k) := by
  unfold wpX_withstand
  dsimp only
  exact qd_isF hd (by omega) (br_f (by decide) (nm_r (qd_top hk) (qd_w25 (by omega) hc ha H)))
theorem qd_en22 {post : Int32 → Prop} {D G O : Int32} {a1 a2 a3 a4 : Nat → Int32} {f c : Nat} {x : Int32} (hf : f < 10) (hc : c ≤ 70) (ha : a1 f = nI c)
    (H1 : qd_U c (fun i => a2 (70 * f + i)) x → post 1) (H0 : ¬ qd_U c (fun i => a2 (70 * f + i)) x → post 0) : ∃ n, wX_enough_22 post x (nI f) D G O a1 a2 a3 a4 n 0 :=
  pk_loop (σ := Unit) (fun n i _ => wX_enough_22 post x (nI f) D G O a1 a2 a3 a4 n (nI i)) (fun i _ => ∀ j, j < i → ¬ qd_S (a2 (70 * f + j)) x) c 0 () (by omega) (fun j hj => absurd hj (by omega))
    (fun n _ h => ⟨pk_in f 10 hf, pk_le c c (fun _ => H0 (fun ⟨j, hj, q⟩ => h j hj q)) (fun z => absurd z (by omega)) (qd_a1 hf ha)⟩)
    (fun n i _ hi h hw => ⟨pk_in f 10 hf, pk_le c i (fun z => absurd z (by omega)) (fun _ => ⟨pk_in (70 * f + i) 700 (by omega) (qd_ix f i), by
      rw [qd_at hf (by omega)]
      exact br_c (fun e => H1 ⟨i, hi, e⟩) (fun e => nm_r (nI_1 i) (hw () (lt_s h e)))⟩) (qd_a1 hf ha)⟩)
theorem qd_en {post : Int32 → Prop} {G O : Int32} {a1 a2 a3 a4 : Nat → Int32} {d k f c : Nat} {x : Int32} (hd : d ≤ 10) (hk : f + k + 1 = d) (hc : c ≤ 70) (ha : a1 f = nI c)
    (H1 : qd_U c (fun i => a2 (70 * f + i)) x → post 1) (H0 : ¬ qd_U c (fun i => a2 (70 * f + i)) x → post 0) : wpX_enough post (nI d, G, O, a1, a2, a3, a4) (nI k) x := by
  unfold wpX_enough
  dsimp only
  exact qd_isF hd (by omega) (br_f (by decide) (nm_r (qd_top hk) (qd_en22 (by omega) hc ha H1 H0)))
theorem qd_lss {post : Int32 → Prop} {G O : Int32} {a1 a2 a3 a4 : Nat → Int32} {d k f c : Nat} (hd : d ≤ 10) (hk : f + k + 1 = d) (ha : a1 f = nI c) (H : post (nI c)) : wpX_leastSets post (nI d, G, O, a1, a2, a3, a4) (nI k) := by
  unfold wpX_leastSets
  dsimp only
  refine qd_isF hd (by omega) (br_f (by decide) ⟨pk_in f 10 (by omega) (qd_top hk), ?_⟩)
  rw [qd_top hk, nI_clamp (by omega), ha]
  exact H
theorem qd_inj {c : Nat} {g : Nat → Int32} (h : qd_F c g) : ∀ i j, i < c → j < c → (g i).toNatClampNeg = (g j).toNatClampNeg → i = j := by
  intro i j hi hj e
  refine h.2 i j hi hj ?_
  rw [(qd_V_c (h.1 i hi)).2, (qd_V_c (h.1 j hj)).2, e]
  exact qd_S_r _
/-- the value of the member at j -/
def qd_w (f : Nat) (a2 : Nat → Int32) (j : Nat) : Nat := (a2 (70 * f + j)).toNatClampNeg
theorem qd_ls60 {post J : Int32 → Prop} {D G O : Int32} {a1 a2 a3 a4 : Nat → Int32} {f c i p : Nat} (hf : f < 10) (hF : qd_F c (fun i => a2 (70 * f + i))) (ha : a1 f = nI c) (hi : i < c) (hp : p < c)
    (H : qd_r (qd_w f a2) (qd_w f a2 p) c = i → post (a2 (70 * f + p))) (HJ : ¬ qd_r (qd_w f a2) (qd_w f a2 p) c = i → J (nI (p + 1))) :
    ∃ n, wX_leastSet_60 post J (nI i) (nI f) (nI p) D G O a1 a2 a3 a4 n 0 0 := by
  have hc := qd_70 hF
  have V : ∀ j, j < c → a2 (70 * nI f + nI j).toNatClampNeg = nI (qd_w f a2 j) ∧ qd_w f a2 j < 256 := fun j hj => by
    rw [qd_at hf (by omega)]
    exact ⟨(qd_V_c (hF.1 j hj)).2, (qd_V_c (hF.1 j hj)).1⟩
  refine pk_loop (σ := Unit) (fun n j _ => wX_leastSet_60 post J (nI i) (nI f) (nI p) D G O a1 a2 a3 a4 n (nI (qd_r (qd_w f a2) (qd_w f a2 p) j)) (nI j)) (fun _ _ => True) c 0 () (by omega) trivial ?_ ?_
  · intro n _ _
    have hr := qd_r_le (qd_w f a2) (qd_w f a2 p) c
    refine ⟨pk_in f 10 hf, pk_le c c (fun _ => ?_) (fun z => absurd z (by omega)) (qd_a1 hf ha)⟩
    refine pk_eq _ i (fun e => ⟨pk_in (70 * f + p) 700 (by omega) (qd_ix f p), ?_⟩) (fun e => nm_r (nI_1 p) (HJ e))
    rw [qd_at hf (by omega)]
    exact H e
  · intro n j _ hj _ hw
    have hr := qd_r_le (qd_w f a2) (qd_w f a2 p) j
    have t : wX_leastSet_60 post J (nI i) (nI f) (nI p) D G O a1 a2 a3 a4 n (nI (qd_r (qd_w f a2) (qd_w f a2 p) (j + 1))) (nI (j + 1)) := hw () trivial
    have vp := V p hp
    have vj := V j hj
    refine ⟨pk_in f 10 hf, pk_le c j (fun z => absurd z (by omega)) (fun _ => ⟨pk_in (70 * f + j) 700 (by omega) (qd_ix f j), pk_in (70 * f + p) 700 (by omega) (qd_ix f p), ?_⟩) (qd_a1 hf ha)⟩
    refine pk_le (qd_w f a2 p) (qd_w f a2 j) (fun z => nm_r ?_ (nm_r (nI_1 j) t)) (fun z => nm_r ?_ (nm_r (nI_1 j) t)) vp.1 vj.1
    · show nI _ + nI 0 = nI (qd_r (qd_w f a2) (qd_w f a2 p) j + (if qd_w f a2 j < qd_w f a2 p then 1 else 0))
      rw [if_neg (by omega), nI_add]
    · show nI _ + nI 1 = nI (qd_r (qd_w f a2) (qd_w f a2 p) j + (if qd_w f a2 j < qd_w f a2 p then 1 else 0))
      rw [if_pos z, nI_add]
theorem qd_ls43 {post : Int32 → Prop} {D G O : Int32} {a1 a2 a3 a4 : Nat → Int32} {f c i : Nat} (hf : f < 10) (hF : qd_F c (fun i => a2 (70 * f + i))) (ha : a1 f = nI c) (hi : i < c)
    (H : ∀ p, p < c → qd_r (qd_w f a2) (qd_w f a2 p) c = i → post (a2 (70 * f + p))) :
    ∃ n, wX_leastSet_43 post (nI i) (nI f) D G O a1 a2 a3 a4 n 0 := by
  have hc := qd_70 hF
  refine pk_loop (σ := Unit) (fun n p _ => wX_leastSet_43 post (nI i) (nI f) D G O a1 a2 a3 a4 n (nI p)) (fun p _ => ∀ j, j < p → ¬ qd_r (qd_w f a2) (qd_w f a2 j) c = i) c 0 () (by omega) (fun j hj => absurd hj (by omega)) ?_ ?_
  · intro n _ h
    obtain ⟨j, hj, e⟩ := qd_r_sur (w := qd_w f a2) (m := 256) (qd_inj hF) (fun j hj => (qd_V_c (hF.1 j hj)).1) hi
    exact absurd e (h j hj)
  · intro n p _ hp h hw
    exact ⟨pk_in f 10 hf, pk_le c p (fun z => absurd z (by omega)) (fun _ => qd_ls60 hf hF ha hi hp (H p hp) (fun e => hw () (lt_s h e))) (qd_a1 hf ha)⟩
theorem qd_ls {post : Int32 → Prop} {G O : Int32} {a1 a2 a3 a4 : Nat → Int32} {d k f c i : Nat} (hd : d ≤ 10) (hk : f + k + 1 = d) (hF : qd_F c (fun i => a2 (70 * f + i))) (ha : a1 f = nI c) (hi : i < c)
    (H : ∀ p, p < c → qd_r (qd_w f a2) (qd_w f a2 p) c = i → post (a2 (70 * f + p))) : wpX_leastSet post (nI d, G, O, a1, a2, a3, a4) (nI k) (nI i) := by
  have hc := qd_70 hF
  unfold wpX_leastSet
  dsimp only
  refine qd_isF hd (by omega) (br_f (by decide) (pk_lt i 0 (fun z => absurd z (by omega)) (fun _ => ⟨pk_in f 10 (by omega) (qd_top hk), pk_lt i c (fun _ => nm_r (qd_top hk) (qd_ls43 (by omega) hF ha hi H)) (fun z => absurd z (by omega)) rfl ?_⟩)))
  rw [qd_top hk]
  exact qd_a1 (by omega) ha
theorem qd_lsN {post : Int32 → Prop} {G O : Int32} {a1 a2 a3 a4 : Nat → Int32} {d k f c : Nat} (hd : d ≤ 10) (hk : f + k + 1 = d) (hc : c ≤ 70) (ha : a1 f = nI c)
    (H : post (-1)) : wpX_leastSet post (nI d, G, O, a1, a2, a3, a4) (nI k) (nI c) := by
  unfold wpX_leastSet
  dsimp only
  refine qd_isF hd (by omega) (br_f (by decide) (pk_lt c 0 (fun z => absurd z (by omega)) (fun _ => ⟨pk_in f 10 (by omega) (qd_top hk), pk_lt c c (fun z => absurd z (by omega)) (fun _ => H) rfl ?_⟩)))
  rw [qd_top hk]
  exact qd_a1 (by omega) ha
theorem qd_mt54 {post J : Int32 → Prop} {D G O : Int32} {a1 a2 a3 a4 : Nat → Int32} {f h c e i : Nat} (hf : f < 10) (hh : h < 10) (hc : c ≤ 70) (he : e ≤ 70) (hb : a1 h = nI e) (hi : i < c)
    (H0 : (∃ j, j < e ∧ a2 (70 * f + i) &&& a2 (70 * h + j) = 0) → post 0) (H1 : (∀ j, j < e → ¬ a2 (70 * f + i) &&& a2 (70 * h + j) = 0) → J (nI (i + 1))) :
    ∃ n, wX_meet_54 post J (nI f) (nI h) (nI i) D G O a1 a2 a3 a4 n 0 :=
  pk_loop (σ := Unit) (fun n j _ => wX_meet_54 post J (nI f) (nI h) (nI i) D G O a1 a2 a3 a4 n (nI j)) (fun j _ => ∀ q, q < j → ¬ a2 (70 * f + i) &&& a2 (70 * h + q) = 0) e 0 () (by omega) (fun j hj => absurd hj (by omega))
    (fun n _ t => ⟨pk_in h 10 hh, pk_le e e (fun _ => nm_r (nI_1 i) (H1 t)) (fun z => absurd z (by omega)) (qd_a1 hh hb)⟩)
    (fun n j _ hj t hw => ⟨pk_in h 10 hh, pk_le e j (fun z => absurd z (by omega)) (fun _ => ⟨pk_in (70 * f + i) 700 (by omega) (qd_ix f i), pk_in (70 * h + j) 700 (by omega) (qd_ix h j), by
      rw [qd_at hf (by omega), qd_at hh (by omega)]
      exact br_c (fun q => H0 ⟨j, hj, q⟩) (fun q => nm_r (nI_1 j) (hw () (lt_s t q)))⟩) (qd_a1 hh hb)⟩)
theorem qd_mt40 {post : Int32 → Prop} {D G O : Int32} {a1 a2 a3 a4 : Nat → Int32} {f h c e : Nat} (hf : f < 10) (hh : h < 10) (hc : c ≤ 70) (he : e ≤ 70) (ha : a1 f = nI c) (hb : a1 h = nI e)
    (H0 : (∃ i, i < c ∧ ∃ j, j < e ∧ a2 (70 * f + i) &&& a2 (70 * h + j) = 0) → post 0) (H1 : (∀ i, i < c → ∀ j, j < e → ¬ a2 (70 * f + i) &&& a2 (70 * h + j) = 0) → post 1) :
    ∃ n, wX_meet_40 post (nI f) (nI h) D G O a1 a2 a3 a4 n 0 :=
  pk_loop (σ := Unit) (fun n i _ => wX_meet_40 post (nI f) (nI h) D G O a1 a2 a3 a4 n (nI i)) (fun i _ => ∀ p, p < i → ∀ j, j < e → ¬ a2 (70 * f + p) &&& a2 (70 * h + j) = 0) c 0 () (by omega) (fun j hj => absurd hj (by omega))
    (fun n _ t => ⟨pk_in f 10 hf, pk_le c c (fun _ => H1 t) (fun z => absurd z (by omega)) (qd_a1 hf ha)⟩)
    (fun n i _ hi t hw => ⟨pk_in f 10 hf, pk_le c i (fun z => absurd z (by omega)) (fun _ => qd_mt54 hf hh hc he hb hi (fun q => H0 ⟨i, hi, q⟩) (fun q => hw () (lt_s t q))) (qd_a1 hf ha)⟩)
theorem qd_mt {post : Int32 → Prop} {G O : Int32} {a1 a2 a3 a4 : Nat → Int32} {d k l f h c e : Nat} (hd : d ≤ 10) (hk : f + k + 1 = d) (hl : h + l + 1 = d) (hc : c ≤ 70) (he : e ≤ 70) (ha : a1 f = nI c) (hb : a1 h = nI e)
    (H0 : (∃ i, i < c ∧ ∃ j, j < e ∧ a2 (70 * f + i) &&& a2 (70 * h + j) = 0) → post 0) (H1 : (∀ i, i < c → ∀ j, j < e → ¬ a2 (70 * f + i) &&& a2 (70 * h + j) = 0) → post 1) :
    wpX_meet post (nI d, G, O, a1, a2, a3, a4) (nI k) (nI l) := by
  unfold wpX_meet
  dsimp only
  exact qd_isF hd (by omega) (br_f (by decide) (qd_isF hd (by omega) (br_f (by decide) (nm_r (qd_top hk) (nm_r (qd_top hl) (qd_mt40 (by omega) (by omega) hc he ha hb H0 H1))))))
end
section
/-! ===== push, copy, keepOlder, gather, gatherHits, gatherUnions ===== -/
/-- one family more at d, what lies below it as it was -/
def qd_R (d c : Nat) (a1 a2 a1' a2' : Nat → Int32) : Prop := (∀ f, f < d → a1' f = a1 f) ∧ (∀ j, j < 70 * d → a2' j = a2 j) ∧ a1' d = nI c ∧ qd_F c (fun i => a2' (70 * d + i))
theorem qd_push {post : Int32 → St1 → Prop} {O : Int32} {a1 a2 a3 a4 : Nat → Int32} {d c : Nat} (hd : d < 10) (hF : qd_F c a3)
    (H : ∀ a1' a2', qd_R d c a1 a2 a1' a2' → (∀ i, i < c → a2' (70 * d + i) = a3 i) → post (nI (d + 1)) (nI (d + 1), nI c, O, a1', a2', a3, a4)) : wpX_push post (nI d, nI c, O, a1, a2, a3, a4) := by
  have hc := qd_70 hF
  refine ⟨pk_in d 10 hd, nm_e ?_⟩
  rw [nI_clamp (show d < 2 ^ 31 by omega)]
  refine pk_loop (fun n i s => wX_push_15 post (nI d) (nI c) O n (nI i) (upd a1 d (nI c)) s a3 a4) (fun i s => (∀ j, j < 70 * d → s j = a2 j) ∧ (∀ j, j < i → s (70 * d + j) = a3 j)) c 0 a2 (by omega) ⟨fun _ _ => rfl, fun j hj => absurd hj (by omega)⟩ ?_ ?_
  · intro n s h
    exact pk_le c c (fun _ => nm_r (nI_1 d) (H _ s ⟨fun f hf => pk_un (by omega), h.1, pk_us, qd_F_c h.2 hF⟩ h.2)) (fun z => absurd z (by omega))
  · intro n i s hi h hw
    refine pk_le c i (fun z => absurd z (by omega)) (fun _ => ⟨pk_in i 71 (by omega), pk_in (70 * d + i) 700 (by omega) (qd_ix d i), nm_e (nm_r (nI_1 i) (hw _ ?_))⟩)
    rw [qd_at hd (by omega), nI_clamp (show i < 2 ^ 31 by omega)]
    refine ⟨fun j hj => ?_, fun j hj => ?_⟩
    · rw [pk_un (by omega)]
      exact h.1 j hj
    · by_cases e : j = i
      · rw [e, pk_us]
      · rw [pk_un (by omega)]
        exact h.2 j (by omega)
theorem qd_cp40 {post : Int32 → St1 → Prop} {O : Int32} {a1 a2 a3 a4 : Nat → Int32} {d f c : Nat} (hd : d < 10) (hf : f < 10) (hF : qd_F c (fun i => a2 (70 * f + i)))
    (H : ∀ G' a1' a2' a3', qd_R d c a1 a2 a1' a2' → (∀ i, i < c → a2' (70 * d + i) = a2 (70 * f + i)) → post (nI (d + 1)) (nI (d + 1), G', O, a1', a2', a3', a4)) :
    ∃ n, wX_copy_40 post (nI f) (nI d) (nI c) O n 0 a1 a2 a3 a4 := by
  have hc := qd_70 hF
  refine pk_loop (fun n i s => wX_copy_40 post (nI f) (nI d) (nI c) O n (nI i) a1 a2 s a4) (fun i s => ∀ j, j < i → s j = a2 (70 * f + j)) c 0 a3 (by omega) (fun j hj => absurd hj (by omega)) ?_ ?_
  · intro n s h
    exact pk_le c c (fun _ => qd_push hd (qd_F_c h hF) (fun a1' a2' r e => H _ a1' a2' s r (fun i hi => by rw [e i hi]; exact h i hi))) (fun z => absurd z (by omega))
  · intro n i s hi h hw
    refine pk_le c i (fun z => absurd z (by omega)) (fun _ => ⟨pk_in (70 * f + i) 700 (by omega) (qd_ix f i), pk_in i 71 (by omega), nm_e (nm_r (nI_1 i) (hw _ ?_))⟩)
    rw [qd_at hf (by omega), nI_clamp (show i < 2 ^ 31 by omega)]
    intro j hj
    by_cases e : j = i
    · rw [e, pk_us]
    · rw [pk_un e]
      exact h j (by omega)
theorem qd_copy {post : Int32 → St1 → Prop} {G O : Int32} {a1 a2 a3 a4 : Nat → Int32} {d k f c : Nat} (hd : d < 10) (hk : f + k + 1 = d) (hF : qd_F c (fun i => a2 (70 * f + i))) (ha : a1 f = nI c)
    (H : ∀ G' a1' a2' a3', qd_R d c a1 a2 a1' a2' → (∀ i, i < c → a2' (70 * d + i) = a2 (70 * f + i)) → post (nI (d + 1)) (nI (d + 1), G', O, a1', a2', a3', a4)) : wpX_copy post (nI d, G, O, a1, a2, a3, a4) (nI k) := by
  unfold wpX_copy
  dsimp only
  exact qd_isF (by omega) (by omega) (br_f (by decide) (pk_lt d 10 (fun _ => nm_r (qd_top hk) ⟨pk_in f 10 (by omega), nm_r (qd_a1 (by omega) ha) (qd_cp40 hd (by omega) hF H)⟩) (fun z => absurd z (by omega))))
theorem qd_copyN {post : Int32 → St1 → Prop} {G O : Int32} {a1 a2 a3 a4 : Nat → Int32} {d k : Nat} (hd : d ≤ 10) (hk : k < 256) (h : ¬ (k < d ∧ d < 10)) (H : post (-1) (nI d, G, O, a1, a2, a3, a4)) : wpX_copy post (nI d, G, O, a1, a2, a3, a4) (nI k) := by
  unfold wpX_copy
  dsimp only
  rcases Nat.lt_or_ge k d with z | z
  · exact qd_isF hd z (br_f (by decide) (pk_lt d 10 (fun q => absurd ⟨z, q⟩ h) (fun _ => H)))
  · exact qd_isN z hk (br_t rfl H)
theorem qd_keep {post : St1 → Prop} {D O : Int32} {a1 a2 a3 a4 : Nat → Int32} {c : Nat} (hc : c ≤ 70) (H : ∀ a4', (∀ i, i < c → a4' i = a3 i) → post (D, 0, nI c, a1, a2, a3, a4')) : wpX_keepOlder post (D, nI c, O, a1, a2, a3, a4) := by
  refine pk_loop (fun n i s => wX_keepOlder_10 post D (nI c) (nI c) n (nI i) a1 a2 a3 s) (fun i s => ∀ j, j < i → s j = a3 j) c 0 a4 (by omega) (fun j hj => absurd hj (by omega)) ?_ ?_
  · intro n s h
    exact pk_le c c (fun _ => H s h) (fun z => absurd z (by omega))
  · intro n i s hi h hw
    refine pk_le c i (fun z => absurd z (by omega)) (fun _ => ⟨pk_in i 71 (by omega), pk_in i 71 (by omega), nm_e (nm_r (nI_1 i) (hw _ ?_))⟩)
    rw [nI_clamp (show i < 2 ^ 31 by omega)]
    intro j hj
    by_cases e : j = i
    · rw [e, pk_us]
    · rw [pk_un e]
      exact h j (by omega)
/-- what the second loop of gather holds: k of the first i are kept, in s -/
def qd_G (x : Int32) (a3 : Nat → Int32) (i k : Nat) (s : Nat → Int32) : Prop :=
  k ≤ i ∧ (∀ j, i ≤ j → s j = a3 j) ∧ qd_F k s ∧ (∀ a, a < k → ∃ b, b < i ∧ s a = a3 b ∧ ¬ qd_S x (a3 b)) ∧ (∀ b, b < i → ¬ qd_S x (a3 b) → ∃ a, a < k ∧ s a = a3 b)
theorem qd_G_0 (x : Int32) (a3 : Nat → Int32) : qd_G x a3 0 0 a3 := ⟨Nat.le_refl 0, fun _ _ => rfl, qd_F_0 _, fun a ha => absurd ha (by omega), fun a ha => absurd ha (by omega)⟩
theorem qd_G_drop {x : Int32} {a3 s : Nat → Int32} {i k : Nat} (h : qd_G x a3 i k s) (q : qd_S x (a3 i)) : qd_G x a3 (i + 1) k s := by
  obtain ⟨h1, h2, h3, h4, h5⟩ := h
  refine ⟨by omega, fun j hj => h2 j (by omega), h3, fun a ha => ?_, fun b hb nb => ?_⟩
  · obtain ⟨b, hb, e⟩ := h4 a ha
    exact ⟨b, by omega, e⟩
  · by_cases e : b = i
    · rw [e] at nb
      exact absurd q nb
    · exact h5 b (by omega) nb
theorem qd_G_keep {x : Int32} {a3 s : Nat → Int32} {g i k : Nat} (hF : qd_F g a3) (hi : i < g) (h : qd_G x a3 i k s) (q : ¬ qd_S x (a3 i)) : qd_G x a3 (i + 1) (k + 1) (upd s k (a3 i)) := by
  obtain ⟨h1, h2, h3, h4, h5⟩ := h
  refine ⟨by omega, fun j hj => ?_, qd_F_add h3 (hF.1 i hi) (fun a ha z => ?_) (fun a ha z => ?_), fun a ha => ?_, fun b hb nb => ?_⟩
  · rw [pk_un (by omega)]
    exact h2 j (by omega)
  · obtain ⟨b, hb, e, _⟩ := h4 a ha
    rw [e] at z
    exact absurd (hF.2 b i (by omega) hi z) (by omega)
  · obtain ⟨b, hb, e, _⟩ := h4 a ha
    rw [e] at z
    exact absurd (hF.2 i b hi (by omega) z) (by omega)
  · by_cases e : a = k
    · exact ⟨i, by omega, by rw [e, pk_us], q⟩
    · obtain ⟨b, hb, e1, e2⟩ := h4 a (by omega)
      exact ⟨b, by omega, by rw [pk_un e]; exact e1, e2⟩
  · by_cases e : b = i
    · exact ⟨k, by omega, by rw [e, pk_us]⟩
    · obtain ⟨a, ha, e1⟩ := h5 b (by omega) nb
      exact ⟨a, by omega, by rw [pk_un (by omega)]; exact e1⟩
theorem qd_G_end {x : Int32} {a3 s : Nat → Int32} {g k : Nat} (hx : qd_V x) (hn : ∀ j, j < g → ¬ qd_S (a3 j) x) (h : qd_G x a3 g k s) : qd_F (k + 1) (upd s k x) ∧ ∀ y, qd_U (k + 1) (upd s k x) y ↔ qd_U g a3 y ∨ qd_S x y := by
  obtain ⟨h1, h2, h3, h4, h5⟩ := h
  refine ⟨qd_F_add h3 hx (fun a ha z => ?_) (fun a ha z => ?_), fun y => ⟨?_, ?_⟩⟩
  · obtain ⟨b, hb, e, _⟩ := h4 a ha
    rw [e] at z
    exact hn b hb z
  · obtain ⟨b, hb, e, q⟩ := h4 a ha
    rw [e] at z
    exact q z
  · rintro ⟨a, ha, z⟩
    by_cases e : a = k
    · rw [e, pk_us] at z
      exact Or.inr z
    · rw [pk_un e] at z
      obtain ⟨b, hb, e1, _⟩ := h4 a (by omega)
      rw [e1] at z
      exact Or.inl ⟨b, hb, z⟩
  · have old : qd_S x y → qd_U (k + 1) (upd s k x) y := fun z => ⟨k, by omega, by rw [pk_us]; exact z⟩
    rintro (⟨b, hb, z⟩ | z)
    · by_cases q : qd_S x (a3 b)
      · exact old (qd_S_t q z)
      · obtain ⟨a, ha, e⟩ := h5 b hb q
        exact ⟨a, by omega, by rw [pk_un (by omega), e]; exact z⟩
    · exact old z
theorem qd_g34 {post : St1 → Prop} {D O : Int32} {a1 a2 a3 a4 : Nat → Int32} {g : Nat} {x : Int32} (hF : qd_F g a3) (hx : qd_V x) (hn : ∀ j, j < g → ¬ qd_S (a3 j) x)
    (H : ∀ g' a3', qd_F g' a3' → (∀ y, qd_U g' a3' y ↔ qd_U g a3 y ∨ qd_S x y) → post (D, nI g', O, a1, a2, a3', a4)) : ∃ n, wX_gather_34 post x D (nI g) O n 0 0 a1 a2 a3 a4 := by
  have hg := qd_70 hF
  refine pk_loop (fun n i (s : Nat × (Nat → Int32)) => wX_gather_34 post x D (nI g) O n (nI s.1) (nI i) a1 a2 s.2 a4) (fun i s => qd_G x a3 i s.1 s.2) g 0 (0, a3) (by omega) (qd_G_0 x a3) ?_ ?_
  · intro n s h
    have hk := h.1
    refine pk_le g g (fun _ => ⟨pk_in s.1 71 (by omega), nm_e (nm_r (nI_1 s.1) ?_)⟩) (fun z => absurd z (by omega))
    rw [nI_clamp (show s.1 < 2 ^ 31 by omega)]
    exact H _ _ (qd_G_end hx hn h).1 (qd_G_end hx hn h).2
  · intro n i s hi h hw
    have hk := h.1
    refine pk_le g i (fun z => absurd z (by omega)) (fun _ => ⟨pk_in i 71 (by omega), ?_⟩)
    rw [nI_clamp (show i < 2 ^ 31 by omega), nI_clamp (show s.1 < 2 ^ 31 by omega), h.2.1 i (Nat.le_refl i)]
    exact br_c (fun q => nm_r (nI_1 i) (hw s (qd_G_drop h q))) (fun q => ⟨pk_in i 71 (by omega), pk_in s.1 71 (by omega), nm_e (nm_r (nI_1 s.1) (nm_r (nI_1 i) (hw (s.1 + 1, upd s.2 s.1 (a3 i)) (qd_G_keep hF hi h q))))⟩)
theorem qd_gather {post : St1 → Prop} {D O : Int32} {a1 a2 a3 a4 : Nat → Int32} {g : Nat} {x : Int32} (hF : qd_F g a3) (hx : qd_V x)
    (H : ∀ g' a3', qd_F g' a3' → (∀ y, qd_U g' a3' y ↔ qd_U g a3 y ∨ qd_S x y) → post (D, nI g', O, a1, a2, a3', a4)) : wpX_gather post (D, nI g, O, a1, a2, a3, a4) x := by
  have hg := qd_70 hF
  refine pk_loop (σ := Unit) (fun n i _ => wX_gather_2 post x D (nI g) O a1 a2 a3 a4 n (nI i)) (fun i _ => ∀ j, j < i → ¬ qd_S (a3 j) x) g 0 () (by omega) (fun j hj => absurd hj (by omega)) ?_ ?_
  · intro n _ h
    exact pk_le g g (fun _ => qd_g34 hF hx h H) (fun z => absurd z (by omega))
  · intro n i _ hi h hw
    refine pk_le g i (fun z => absurd z (by omega)) (fun _ => ⟨pk_in i 71 (by omega), ?_⟩)
    rw [nI_clamp (show i < 2 ^ 31 by omega)]
    exact br_c (fun q => H g a3 hF (fun y => ⟨Or.inl, fun t => t.elim id (fun t => ⟨i, hi, qd_S_t q t⟩)⟩)) (fun q => nm_r (nI_1 i) (hw () (lt_s h q)))
theorem qd_S_or {a b y : Int32} : qd_S (a ||| b) y ↔ qd_S a y ∧ qd_S b y := by
  rw [qd_S_iff, qd_S_iff, qd_S_iff]
  constructor
  · intro h
    exact ⟨fun i hi e => h i hi (by rw [b_or, e]; rfl), fun i hi e => h i hi (by rw [b_or, e, Bool.or_true])⟩
  · intro h i hi e
    rw [b_or, Bool.or_eq_true] at e
    exact e.elim (h.1 i hi) (h.2 i hi)
theorem qd_S_bit {m : Nat} (hm : m < 8) {y : Int32} : qd_S ((1 : Int32) <<< (nI m &&& 31)) y ↔ bt y m = true := by
  rw [qd_S_iff]
  constructor
  · intro h
    exact h m (by omega) (by rw [qd_bit1 m hm m (by omega), decide_eq_true rfl])
  · intro h i hi e
    rw [qd_bit1 m hm i hi, decide_eq_true_eq] at e
    rw [e]
    exact h
theorem qd_bit0 : ∀ i, i < 32 → bt 1 i = decide (i = 0) := by decide +kernel
theorem qd_tst {m : Nat} (hm : m < 8) (o : Int32) : ((o.toUInt32 >>> ((nI m).toUInt32 &&& Int32.toUInt32 31)).toInt32 &&& 1) = 0 ↔ bt o m = false := by
  rw [qd_Z_iff]
  constructor
  · intro h
    rcases Bool.eq_false_or_eq_true (bt o m) with e | e
    · have t := h 0 (by omega) (by rw [b_ushr m (by omega)]; exact e)
      exact absurd t (by decide)
    · exact e
  · intro h i hi e
    rw [b_ushr m (by omega)] at e
    rw [qd_bit0 i hi, decide_eq_false_iff_not]
    intro z
    rw [z, Nat.add_zero, h] at e
    exact absurd e (by decide)
theorem qd_gh14 {post : St1 → Prop} {D O : Int32} {a1 a2 a3 a4 : Nat → Int32} {g : Nat} {s o : Int32} (hF : qd_F g a3) (hs : qd_V s) (ho : qd_V o)
    (H : ∀ g' a3', qd_F g' a3' → (∀ y, qd_U g' a3' y ↔ qd_U g a3 y ∨ (qd_S s y ∧ ¬ o &&& y = 0)) → post (D, nI g', O, a1, a2, a3', a4)) : ∃ n, wX_gatherHits_14 post s o n 0 D (nI g) O a1 a2 a3 a4 := by
  refine pk_loop (fun n i (t : Nat × (Nat → Int32)) => wX_gatherHits_14 post s o n (nI i) D (nI t.1) O a1 a2 t.2 a4)
    (fun i t => qd_F t.1 t.2 ∧ ∀ y, qd_U t.1 t.2 y ↔ qd_U g a3 y ∨ (qd_S s y ∧ ∃ m, m < i ∧ bt o m = true ∧ bt y m = true)) 8 0 (g, a3) (by omega)
    ⟨hF, fun y => ⟨Or.inl, fun t => t.elim id (fun ⟨_, m, hm, _⟩ => absurd hm (by omega))⟩⟩ ?_ ?_
  · intro n t h
    refine pk_le 8 8 (fun _ => H t.1 t.2 h.1 (fun y => ?_)) (fun z => absurd z (by omega))
    rw [h.2 y, qd_N_iff]
    refine or_congr Iff.rfl (and_congr Iff.rfl ⟨fun ⟨m, hm, q⟩ => ⟨m, by omega, q⟩, fun ⟨m, hm, q⟩ => ⟨m, qd_V_bt ho q.1, q⟩⟩)
  · intro n i t hi h hw
    refine pk_le 8 i (fun z => absurd z (by omega)) (fun _ => ?_)
    refine ek_if (qd_tst hi o) (fun e => nm_r (nI_1 i) (hw t ⟨h.1, fun y => ?_⟩)) (fun e => qd_gather h.1 (qd_V_or hs (qd_V_bit hi)) (fun g' a3' k1 k2 => nm_r (nI_1 i) (hw (g', a3') ⟨k1, fun y => ?_⟩)))
    · rw [h.2 y]
      refine or_congr Iff.rfl (and_congr Iff.rfl ⟨fun ⟨m, hm, q⟩ => ⟨m, by omega, q⟩, fun ⟨m, hm, q⟩ => ⟨m, ?_, q⟩⟩)
      by_cases z : m = i
      · rw [z, e] at q
        exact absurd q.1 (by decide)
      · omega
    · have e' : bt o i = true := by
        rcases Bool.eq_false_or_eq_true (bt o i) with z | z
        · exact z
        · exact absurd z e
      rw [k2 y, h.2 y, qd_S_or, qd_S_bit hi]
      constructor
      · rintro ((q | ⟨q1, m, hm, q2⟩) | ⟨q1, q2⟩)
        · exact Or.inl q
        · exact Or.inr ⟨q1, m, by omega, q2⟩
        · exact Or.inr ⟨q1, i, by omega, e', q2⟩
      · rintro (q | ⟨q1, m, hm, q2⟩)
        · exact Or.inl (Or.inl q)
        · by_cases z : m = i
          · rw [z] at q2
            exact Or.inr ⟨q1, q2.2⟩
          · exact Or.inl (Or.inr ⟨q1, m, by omega, q2⟩)
theorem qd_gh {post : St1 → Prop} {D O : Int32} {a1 a2 a3 a4 : Nat → Int32} {g : Nat} {s o : Int32} (hF : qd_F g a3) (hs : qd_V s) (ho : qd_V o)
    (H : ∀ g' a3', qd_F g' a3' → (∀ y, qd_U g' a3' y ↔ qd_U g a3 y ∨ (qd_S s y ∧ ¬ o &&& y = 0)) → post (D, nI g', O, a1, a2, a3', a4)) : wpX_gatherHits post (D, nI g, O, a1, a2, a3, a4) s o := by
  refine br_c (fun _ => qd_gh14 hF hs ho H) (fun z => qd_gather hF hs (fun g' a3' k1 k2 => H g' a3' k1 (fun y => ?_)))
  rw [k2 y]
  refine or_congr Iff.rfl ⟨fun q => ⟨q, ?_⟩, fun q => q.1⟩
  rw [qd_and_c]
  exact qd_meet_up z q
theorem qd_gu {post : St1 → Prop} {D O : Int32} {a1 a2 a3 a4 : Nat → Int32} {g f c : Nat} {s : Int32} (hF : qd_F g a3) (hs : qd_V s) (hf : f < 10) (hc : qd_F c (fun i => a2 (70 * f + i))) (ha : a1 f = nI c)
    (H : ∀ g' a3', qd_F g' a3' → post (D, nI g', O, a1, a2, a3', a4)) : wpX_gatherUnions post (D, nI g, O, a1, a2, a3, a4) s (nI f) := by
  have h70 := qd_70 hc
  refine pk_loop (fun n i (t : Nat × (Nat → Int32)) => wX_gatherUnions_2 post s (nI f) n (nI i) D (nI t.1) O a1 a2 t.2 a4) (fun _ t => qd_F t.1 t.2) c 0 (g, a3) (by omega) hF ?_ ?_
  · intro n t h
    exact ⟨pk_in f 10 hf, pk_le c c (fun _ => H t.1 t.2 h) (fun z => absurd z (by omega)) (qd_a1 hf ha)⟩
  · intro n i t hi h hw
    refine ⟨pk_in f 10 hf, pk_le c i (fun z => absurd z (by omega)) (fun _ => ⟨pk_in (70 * f + i) 700 (by omega) (qd_ix f i), ?_⟩) (qd_a1 hf ha)⟩
    rw [qd_at hf (by omega)]
    exact qd_gather h (qd_V_or hs (hc.1 i hi)) (fun g' a3' k1 _ => nm_r (nI_1 i) (hw (g', a3') k1))
end
section
/-! ===== dual, given, join, atLeast ===== -/
theorem qd_d47 {post : Int32 → St1 → Prop} {J : Int32 → Int32 → Int32 → Int32 → (Nat → Int32) → (Nat → Int32) → (Nat → Int32) → (Nat → Int32) → Prop} {D : Int32} {a1 a2 a3 a4 : Nat → Int32} {f i oc : Nat} (hf : f < 10) (hi : i < 70) (hoc : oc ≤ 70)
    (h4 : ∀ k, k < oc → qd_V (a4 k)) (hL : qd_V (a2 (70 * f + i)))
    (HJ : ∀ g' a3', qd_F g' a3' → (∀ y, qd_U g' a3' y ↔ qd_U oc a4 y ∧ ¬ a2 (70 * f + i) &&& y = 0) → J (nI (i + 1)) D (nI g') (nI oc) a1 a2 a3' a4) :
    ∃ n, wX_dual_47 post J (nI f) (nI i) n 0 D 0 (nI oc) a1 a2 a3 a4 := by
  refine pk_loop (fun n k (t : Nat × (Nat → Int32)) => wX_dual_47 post J (nI f) (nI i) n (nI k) D (nI t.1) (nI oc) a1 a2 t.2 a4)
    (fun k t => qd_F t.1 t.2 ∧ ∀ y, qd_U t.1 t.2 y ↔ qd_U k a4 y ∧ ¬ a2 (70 * f + i) &&& y = 0) oc 0 (0, a3) (by omega)
    ⟨qd_F_0 _, fun y => ⟨fun ⟨_, q, _⟩ => absurd q (by omega), fun ⟨⟨_, q, _⟩, _⟩ => absurd q (by omega)⟩⟩ ?_ ?_
  · intro n t h
    exact pk_le oc oc (fun _ => nm_r (nI_1 i) (HJ t.1 t.2 h.1 h.2)) (fun z => absurd z (by omega))
  · intro n k t hk h hw
    refine pk_le oc k (fun z => absurd z (by omega)) (fun _ => ⟨pk_in k 71 (by omega), pk_in (70 * f + i) 700 (by omega) (qd_ix f i), ?_⟩)
    rw [qd_at hf (by omega), nI_clamp (show k < 2 ^ 31 by omega)]
    refine qd_gh h.1 (h4 k hk) hL (fun g' a3' k1 k2 => nm_r (nI_1 k) (hw (g', a3') ⟨k1, fun y => ?_⟩))
    show qd_U g' a3' y ↔ _
    rw [k2 y, h.2 y]
    constructor
    · rintro (⟨⟨p, hp, q⟩, z⟩ | ⟨q, z⟩)
      · exact ⟨⟨p, by omega, q⟩, z⟩
      · exact ⟨⟨k, by omega, q⟩, z⟩
    · rintro ⟨⟨p, hp, q⟩, z⟩
      by_cases e : p = k
      · rw [e] at q
        exact Or.inr ⟨q, z⟩
      · exact Or.inl ⟨⟨p, by omega, q⟩, z⟩
theorem qd_d31 {post : Int32 → St1 → Prop} {O : Int32} {a1 a2 a3 a4 : Nat → Int32} {f c : Nat} (hf : f < 10) (hF : qd_F c (fun i => a2 (70 * f + i))) (ha : a1 f = nI c)
    (H : ∀ G' O' a1' a2' a3' a4' c', qd_R f c' a1 a2 a1' a2' → (∀ y, qd_U c' (fun i => a2' (70 * f + i)) y ↔ qd_H c (fun i => a2 (70 * f + i)) y) → post (nI (f + 1)) (nI (f + 1), G', O', a1', a2', a3', a4')) :
    ∃ n, wX_dual_31 post (nI f) n 0 (nI (f + 1)) 1 O a1 a2 (upd a3 0 0) a4 := by
  have hc := qd_70 hF
  refine pk_loop (fun n i (t : Nat × Int32 × (Nat → Int32) × (Nat → Int32)) => wX_dual_31 post (nI f) n (nI i) (nI (f + 1)) (nI t.1) t.2.1 a1 a2 t.2.2.1 t.2.2.2)
    (fun i t => qd_F t.1 t.2.2.1 ∧ ∀ y, qd_U t.1 t.2.2.1 y ↔ qd_H i (fun i => a2 (70 * f + i)) y) c 0 (1, O, upd a3 0 0, a4) (by omega) ⟨?_, ?_⟩ ?_ ?_
  · exact qd_F_add (qd_F_0 a3) qd_V_0 (fun a ha => absurd ha (by omega)) (fun a ha => absurd ha (by omega))
  · intro y
    refine ⟨fun _ i hi => absurd hi (by omega), fun _ => ⟨0, Nat.one_pos, ?_⟩⟩
    show qd_S (upd a3 0 0 0) y
    rw [pk_us]
    exact qd_S_0 y
  · intro n t h
    refine ⟨pk_in f 10 hf, pk_le c c (fun _ => nm_r (nI_pred f) (qd_push hf h.1 (fun a1' a2' r e => H _ _ a1' a2' _ _ t.1 r (fun y => ?_)))) (fun z => absurd z (by omega)) (qd_a1 hf ha)⟩
    rw [← h.2 y]
    exact qd_U_c e y
  · intro n i t hi h hw
    refine ⟨pk_in f 10 hf, pk_le c i (fun z => absurd z (by omega)) (fun _ => qd_keep (qd_70 h.1) (fun a4' e => ?_)) (qd_a1 hf ha)⟩
    refine qd_d47 hf (by omega) (qd_70 h.1) (fun k hk => by rw [e k hk]; exact h.1.1 k hk) (hF.1 i hi) (fun g' a3' k1 k2 => hw (g', _, a3', a4') ⟨k1, fun y => ?_⟩)
    show qd_U g' a3' y ↔ _
    rw [k2 y, qd_U_c e y, h.2 y]
    exact ⟨fun q => lt_s q.1 q.2, fun q => ⟨fun j hj => q j (by omega), q i (by omega)⟩⟩
theorem qd_dual {post : Int32 → St1 → Prop} {G O : Int32} {a1 a2 a3 a4 : Nat → Int32} {f c : Nat} (hf : f < 10) (hF : qd_F c (fun i => a2 (70 * f + i))) (ha : a1 f = nI c)
    (H : ∀ G' O' a1' a2' a3' a4' c', qd_R f c' a1 a2 a1' a2' → (∀ y, qd_U c' (fun i => a2' (70 * f + i)) y ↔ qd_H c (fun i => a2 (70 * f + i)) y) → post (nI (f + 1)) (nI (f + 1), G', O', a1', a2', a3', a4')) :
    wpX_dual post (nI (f + 1), G, O, a1, a2, a3, a4) :=
  pk_le 1 (f + 1) (fun _ => nm_r (nI_pred f) (nm_e (qd_d31 hf hF ha H))) (fun z => absurd z (by omega))
theorem qd_dual0 {post : Int32 → St1 → Prop} {G O : Int32} {a1 a2 a3 a4 : Nat → Int32} (H : post (-1) (nI 0, G, O, a1, a2, a3, a4)) : wpX_dual post (nI 0, G, O, a1, a2, a3, a4) :=
  pk_le 1 0 (fun z => absurd z (by omega)) (fun _ => H)
theorem qd_gv24 {post : Int32 → St1 → Prop} {O x : Int32} {a1 a2 a3 a4 : Nat → Int32} {f c : Nat} (hf : f < 10) (hF : qd_F c (fun i => a2 (70 * f + i))) (ha : a1 f = nI c)
    (H : ∀ G' O' a1' a2' a3' a4' c', qd_R f c' a1 a2 a1' a2' → post (nI (f + 1)) (nI (f + 1), G', O', a1', a2', a3', a4')) :
    ∃ n, wX_given_24 post x (nI f) n 0 (nI (f + 1)) 0 O a1 a2 a3 a4 := by
  have hc := qd_70 hF
  refine pk_loop (fun n i (t : Nat × (Nat → Int32)) => wX_given_24 post x (nI f) n (nI i) (nI (f + 1)) (nI t.1) O a1 a2 t.2 a4) (fun _ t => qd_F t.1 t.2) c 0 (0, a3) (by omega) (qd_F_0 _) ?_ ?_
  · intro n t h
    exact ⟨pk_in f 10 hf, pk_le c c (fun _ => nm_r (nI_pred f) (qd_push hf h (fun a1' a2' r _ => H _ _ a1' a2' _ _ t.1 r))) (fun z => absurd z (by omega)) (qd_a1 hf ha)⟩
  · intro n i t hi h hw
    refine ⟨pk_in f 10 hf, pk_le c i (fun z => absurd z (by omega)) (fun _ => ⟨pk_in (70 * f + i) 700 (by omega) (qd_ix f i), ?_⟩) (qd_a1 hf ha)⟩
    rw [qd_at hf (by omega)]
    exact qd_gather h (qd_V_and (hF.1 i hi)) (fun g' a3' k1 _ => nm_r (nI_1 i) (hw (g', a3') k1))
theorem qd_given {post : Int32 → St1 → Prop} {G O x : Int32} {a1 a2 a3 a4 : Nat → Int32} {f c : Nat} (hf : f < 10) (hF : qd_F c (fun i => a2 (70 * f + i))) (ha : a1 f = nI c)
    (H : ∀ G' O' a1' a2' a3' a4' c', qd_R f c' a1 a2 a1' a2' → post (nI (f + 1)) (nI (f + 1), G', O', a1', a2', a3', a4')) :
    wpX_given post (nI (f + 1), G, O, a1, a2, a3, a4) x :=
  pk_le 1 (f + 1) (fun _ => nm_r (nI_pred f) (qd_gv24 hf hF ha H)) (fun z => absurd z (by omega))
theorem qd_given0 {post : Int32 → St1 → Prop} {G O x : Int32} {a1 a2 a3 a4 : Nat → Int32} (H : post (-1) (nI 0, G, O, a1, a2, a3, a4)) : wpX_given post (nI 0, G, O, a1, a2, a3, a4) x :=
  pk_le 1 0 (fun z => absurd z (by omega)) (fun _ => H)
theorem qd_p2 (f : Nat) : nI (f + 2) - 2 = nI f := by
  show nI (f + 2) - nI 2 = _
  rw [pk_sub (by omega)]
  rfl
theorem qd_j129 {post : Int32 → St1 → Prop} {O : Int32} {a1 a2 a3 a4 : Nat → Int32} {f g : Nat} (hf : f < 9) (hF : qd_F g a3)
    (H : ∀ G' O' a1' a2' a3' a4' c', qd_R f c' a1 a2 a1' a2' → post (nI (f + 1)) (nI (f + 1), G', O', a1', a2', a3', a4')) :
    wX_join_129 post (nI (f + 2)) (nI g) O a1 a2 a3 a4 :=
  nm_r (qd_p2 f) (qd_push (by omega) hF (fun a1' a2' r _ => H _ _ a1' a2' _ _ g r))
theorem qd_j92 {post : Int32 → St1 → Prop} {O x : Int32} {a1 a2 a3 a4 : Nat → Int32} {f g e : Nat} (hf : f < 9) (hF : qd_F g a3) (hE : qd_F e (fun i => a2 (70 * (f + 1) + i))) (hb : a1 (f + 1) = nI e)
    (H : ∀ G' O' a1' a2' a3' a4' c', qd_R f c' a1 a2 a1' a2' → post (nI (f + 1)) (nI (f + 1), G', O', a1', a2', a3', a4')) :
    ∃ n, wX_join_92 post x (nI (f + 1)) n 0 (nI (f + 2)) (nI g) O a1 a2 a3 a4 := by
  have he := qd_70 hE
  refine pk_loop (fun n i (t : Nat × (Nat → Int32)) => wX_join_92 post x (nI (f + 1)) n (nI i) (nI (f + 2)) (nI t.1) O a1 a2 t.2 a4) (fun _ t => qd_F t.1 t.2) e 0 (g, a3) (by omega) hF ?_ ?_
  · intro n t h
    exact ⟨pk_in (f + 1) 10 (by omega), pk_le e e (fun _ => qd_j129 hf h H) (fun z => absurd z (by omega)) (qd_a1 (by omega) hb)⟩
  · intro n i t hi h hw
    refine ⟨pk_in (f + 1) 10 (by omega), pk_le e i (fun z => absurd z (by omega)) (fun _ => br_c (fun _ => ⟨pk_in (70 * (f + 1) + i) 700 (by omega) (qd_ix (f + 1) i), ?_⟩) (fun _ => qd_j129 hf h H)) (qd_a1 (by omega) hb)⟩
    rw [qd_at (by omega) (by omega)]
    exact qd_gather h (hE.1 i hi) (fun g' a3' k1 _ => nm_r (nI_1 i) (hw (g', a3') k1))
theorem qd_j32 {post : Int32 → St1 → Prop} {O x : Int32} {a1 a2 a3 a4 : Nat → Int32} {f c e : Nat} (hf : f < 9) (hF : qd_F c (fun i => a2 (70 * f + i))) (ha : a1 f = nI c) (hE : qd_F e (fun i => a2 (70 * (f + 1) + i))) (hb : a1 (f + 1) = nI e)
    (H : ∀ G' O' a1' a2' a3' a4' c', qd_R f c' a1 a2 a1' a2' → post (nI (f + 1)) (nI (f + 1), G', O', a1', a2', a3', a4')) :
    ∃ n, wX_join_32 post x (nI f) (nI (f + 1)) n 0 (nI (f + 2)) 0 O a1 a2 a3 a4 := by
  have hc := qd_70 hF
  refine pk_loop (fun n i (t : Nat × (Nat → Int32)) => wX_join_32 post x (nI f) (nI (f + 1)) n (nI i) (nI (f + 2)) (nI t.1) O a1 a2 t.2 a4) (fun _ t => qd_F t.1 t.2) c 0 (0, a3) (by omega) (qd_F_0 _) ?_ ?_
  · intro n t h
    exact ⟨pk_in f 10 (by omega), pk_le c c (fun _ => qd_j92 hf h hE hb H) (fun z => absurd z (by omega)) (qd_a1 (by omega) ha)⟩
  · intro n i t hi h hw
    refine ⟨pk_in f 10 (by omega), pk_le c i (fun z => absurd z (by omega)) (fun _ => ?_) (qd_a1 (by omega) ha)⟩
    rw [qd_at (show f < 10 by omega) (show i < 70 by omega)]
    exact br_c (fun _ => ⟨pk_in (70 * f + i) 700 (by omega) (qd_ix f i), qd_gather h (hF.1 i hi) (fun g' a3' k1 _ => nm_r (nI_1 i) (hw (g', a3') k1))⟩)
      (fun _ => ⟨pk_in (70 * f + i) 700 (by omega) (qd_ix f i), qd_gu h (hF.1 i hi) (by omega) hE hb (fun g' a3' k1 => nm_r (nI_1 i) (hw (g', a3') k1))⟩)
theorem qd_join {post : Int32 → St1 → Prop} {G O x : Int32} {a1 a2 a3 a4 : Nat → Int32} {f c e : Nat} (hf : f < 9) (hF : qd_F c (fun i => a2 (70 * f + i))) (ha : a1 f = nI c) (hE : qd_F e (fun i => a2 (70 * (f + 1) + i))) (hb : a1 (f + 1) = nI e)
    (H : ∀ G' O' a1' a2' a3' a4' c', qd_R f c' a1 a2 a1' a2' → post (nI (f + 1)) (nI (f + 1), G', O', a1', a2', a3', a4')) :
    wpX_join post (nI (f + 2), G, O, a1, a2, a3, a4) x :=
  pk_le 2 (f + 2) (fun _ => nm_r (qd_p2 f) (nm_r (nI_pred (f + 1)) (qd_j32 hf hF ha hE hb H))) (fun z => absurd z (by omega))
theorem qd_joinN {post : Int32 → St1 → Prop} {G O x : Int32} {a1 a2 a3 a4 : Nat → Int32} {d : Nat} (hd : d < 2) (H : post (-1) (nI d, G, O, a1, a2, a3, a4)) : wpX_join post (nI d, G, O, a1, a2, a3, a4) x :=
  pk_le 2 d (fun z => absurd z (by omega)) (fun _ => H)
theorem qd_al28 {post : Int32 → St1 → Prop} {O x : Int32} {a1 a2 a3 a4 : Nat → Int32} {d k : Nat} (hd : d < 10) (hk : k ≤ 8)
    (H : ∀ G' O' a1' a2' a3' a4' c', qd_R d c' a1 a2 a1' a2' → post (nI (d + 1)) (nI (d + 1), G', O', a1', a2', a3', a4')) :
    ∃ n, wX_atLeast_28 post (nI k) x (nI d) O n 0 0 a1 a2 a3 a4 := by
  refine pk_loop (fun n i (t : Nat × (Nat → Int32)) => wX_atLeast_28 post (nI k) x (nI d) O n (nI i) (nI t.1) a1 a2 t.2 a4)
    (fun i t => qd_F t.1 t.2 ∧ ∀ a, a < t.1 → qd_n (t.2 a) = k ∧ (t.2 a).toNatClampNeg < i) 256 0 (0, a3) (by omega) ⟨qd_F_0 _, fun a ha => absurd ha (by omega)⟩ ?_ ?_
  · intro n t h
    exact pk_le 256 256 (fun _ => qd_push hd h.1 (fun a1' a2' r _ => H _ _ a1' a2' _ _ t.1 r)) (fun z => absurd z (by omega))
  · intro n i t hi h hw
    have ht := qd_70 h.1
    have hp := qd_p_le i 8
    have up : ∀ a, a < t.1 → qd_n (t.2 a) = k ∧ (t.2 a).toNatClampNeg < i + 1 := fun a ha => ⟨(h.2 a ha).1, by have := (h.2 a ha).2; omega⟩
    refine pk_le 256 i (fun z => absurd z (by omega)) (fun _ => br_c (fun _ => qd_onesX hi ?_) (fun _ => nm_r (nI_1 i) (hw t ⟨h.1, up⟩)))
    refine pk_eq (qd_p i 8) k (fun e => ⟨pk_in t.1 71 (by omega), nm_e (nm_r (nI_1 t.1) (nm_r (nI_1 i) (hw (t.1 + 1, upd t.2 _ (nI i)) ?_)))⟩) (fun _ => nm_r (nI_1 i) (hw t ⟨h.1, up⟩))
    have en : qd_n (nI i) = k := by rw [qd_n_nI hi]; exact e
    have ne : ∀ a, a < t.1 → ¬ t.2 a = nI i := fun a ha z => by
      have := (h.2 a ha).2
      rw [z, nI_clamp (by omega)] at this
      omega
    rw [nI_clamp (show t.1 < 2 ^ 31 by omega)]
    refine ⟨qd_F_add h.1 (qd_V_n hi) (fun a ha z => ne a ha (qd_n_eq (h.1.1 a ha) (qd_V_n hi) z (by rw [en]; exact (h.2 a ha).1))) (fun a ha z => ne a ha (qd_n_eq (qd_V_n hi) (h.1.1 a ha) z (by rw [en]; exact (h.2 a ha).1.symm)).symm), fun a ha => ?_⟩
    show qd_n (upd t.2 t.1 (nI i) a) = k ∧ (upd t.2 t.1 (nI i) a).toNatClampNeg < i + 1
    have ha' : a < t.1 + 1 := ha
    by_cases q : a = t.1
    · rw [q, pk_us, nI_clamp (by omega)]
      exact ⟨en, by omega⟩
    · rw [pk_un q]
      exact up a (by omega)
theorem qd_al {post : Int32 → St1 → Prop} {G O x : Int32} {a1 a2 a3 a4 : Nat → Int32} {d k : Nat} (hd : d < 10) (hk : k ≤ 8)
    (H : ∀ G' O' a1' a2' a3' a4' c', qd_R d c' a1 a2 a1' a2' → post (nI (d + 1)) (nI (d + 1), G', O', a1', a2', a3', a4')) :
    wpX_atLeast post (nI d, G, O, a1, a2, a3, a4) (nI k) x :=
  pk_lt k 0 (fun z => absurd z (by omega)) (fun _ => pk_lt 8 k (fun z => absurd z (by omega)) (fun _ => pk_lt d 10 (fun _ => qd_al28 hd hk H) (fun z => absurd z (by omega))))
theorem qd_alN {post : Int32 → St1 → Prop} {G O x : Int32} {a1 a2 a3 a4 : Nat → Int32} {k : Nat} (hk : k ≤ 8) (H : post (-1) (nI 10, G, O, a1, a2, a3, a4)) :
    wpX_atLeast post (nI 10, G, O, a1, a2, a3, a4) (nI k) x :=
  pk_lt k 0 (fun z => absurd z (by omega)) (fun _ => pk_lt 8 k (fun z => absurd z (by omega)) (fun _ => pk_lt 10 10 (fun z => absurd z (by omega)) (fun _ => H)))
theorem qd_drop {post : Int32 → St1 → Prop} {G O : Int32} {a1 a2 a3 a4 : Nat → Int32} {f : Nat} (hf : f < 10) (H : post (nI f) (nI f, G, O, a1, a2, a3, a4)) : wpX_drop post (nI (f + 1), G, O, a1, a2, a3, a4) :=
  pk_le 1 (f + 1) (fun _ => nm_r (nI_pred f) H) (fun z => absurd z (by omega))
end
section
/-! ===== the law's own methods: least, dual ===== -/
/-- the rank of the member at p of family f -/
abbrev qd_k (f : Nat) (a2 : Nat → Int32) (c p : Nat) : Nat := qd_r (qd_w f a2) (qd_w f a2 p) c
theorem qd_k_inj {f c p q : Nat} {a2 : Nat → Int32} (hF : qd_F c (fun i => a2 (70 * f + i))) (hp : p < c) (hq : q < c) (e : qd_k f a2 c p = qd_k f a2 c q) : p = q := qd_inj hF p q hp hq (qd_r_eq (w := qd_w f a2) hp hq e)
theorem qd_m1 : ∀ v, v < 256 → ¬ nI v ≤ (-1) := by decide +kernel
theorem qd_129 {post : Int32 → Prop} {G O z : Int32} {a1 a2 a3 a4 : Nat → Int32} {d k l f h c e : Nat} (hd : d ≤ 10) (hk : f + k + 1 = d) (hl : h + l + 1 = d) (hc : c ≤ 70) (he : e ≤ 70) (ha : a1 f = nI c) (hb : a1 h = nI e) (H : post 1) :
    wL_least_129 post (nI k) (nI l) z z (nI d) G O a1 a2 a3 a4 :=
  br_t rfl (qd_mt hd hl hk he hc hb ha
    (fun ⟨i, hi, j, hj, t⟩ => qd_mt hd hk hl hc he ha hb (fun _ => br_t rfl H) (fun q => absurd (by rw [qd_and_c]; exact t) (q j hj i hi)))
    (fun q => qd_mt hd hk hl hc he ha hb (fun ⟨j, hj, i, hi, t⟩ => absurd (by rw [qd_and_c]; exact t) (q i hi j hj)) (fun _ => br_t rfl H)))
theorem qd_l64 {post : Int32 → Prop} {J : Int32 → Int32 → Int32 → Prop} {G O x1 x3 s x5 : Int32} {a1 a2 a3 a4 : Nat → Int32} {d l h e i : Nat} (hd : d ≤ 10) (hl : h + l + 1 = d) (hE : qd_F e (fun i => a2 (70 * h + i))) (hb : a1 h = nI e) (h5 : x5 = 1 ∨ x5 = 0)
    (H : ∀ y, ((y = 1 ∧ x5 = 1 ∧ ∀ q, q < e → ¬ s &&& a2 (70 * h + q) = 0) ∨ (y = 0 ∧ (x5 = 0 ∨ ∃ q, q < e ∧ s &&& a2 (70 * h + q) = 0))) → J y s (nI (i + 1))) :
    ∃ n, wL_least_64 post J x1 (nI l) x3 (nI e) s (nI i) s (nI d) G O a1 a2 a3 a4 n x5 0 := by
  have he := qd_70 hE
  refine pk_loop (fun n j y => wL_least_64 post J x1 (nI l) x3 (nI e) s (nI i) s (nI d) G O a1 a2 a3 a4 n y (nI j))
    (fun j y => (y = 1 ∧ x5 = 1 ∧ ∀ q, q < e → qd_k h a2 e q < j → ¬ s &&& a2 (70 * h + q) = 0) ∨ (y = 0 ∧ (x5 = 0 ∨ ∃ q, q < e ∧ s &&& a2 (70 * h + q) = 0))) e 0 x5 (by omega) ?_ ?_ ?_
  · exact h5.elim (fun z => Or.inl ⟨z, z, fun _ _ q => absurd q (by omega)⟩) (fun z => Or.inr ⟨z, Or.inl z⟩)
  · intro n y t
    refine pk_le e e (fun _ => nm_r (nI_1 i) (H y ?_)) (fun z => absurd z (by omega))
    exact t.elim (fun ⟨t1, t2, t3⟩ => Or.inl ⟨t1, t2, fun q hq => t3 q hq (qd_r_in (w := qd_w h a2) hq)⟩) Or.inr
  · intro n j y hj t hw
    refine pk_le e j (fun z => absurd z (by omega)) (fun _ => qd_ls hd hl hE hb hj (fun p hp r => br_c (fun z => nm_r (nI_1 j) (hw 0 (Or.inr ⟨rfl, Or.inr ⟨p, hp, z⟩⟩))) (fun z => nm_r (nI_1 j) (hw y ?_))))
    refine t.elim (fun ⟨t1, t2, t3⟩ => Or.inl ⟨t1, t2, fun q hq hr => ?_⟩) Or.inr
    by_cases u : qd_k h a2 e q = j
    · rw [qd_k_inj hE hq hp (u.trans r.symm)]
      exact z
    · exact t3 q hq (by omega)
theorem qd_l22 {post : Int32 → Prop} {G O : Int32} {a1 a2 a3 a4 : Nat → Int32} {d k l f h c e : Nat} (hd : d ≤ 10) (hk : f + k + 1 = d) (hl : h + l + 1 = d) (hF : qd_F c (fun i => a2 (70 * f + i))) (ha : a1 f = nI c) (hE : qd_F e (fun i => a2 (70 * h + i))) (hb : a1 h = nI e) (H : post 1) :
    ∃ n, wL_least_22 post (nI k) (nI l) (nI c) (nI e) (nI d) G O a1 a2 a3 a4 n 1 (-1) 0 := by
  have hc := qd_70 hF
  have he := qd_70 hE
  refine pk_loop (fun n i (s : Int32 × Int32) => wL_least_22 post (nI k) (nI l) (nI c) (nI e) (nI d) G O a1 a2 a3 a4 n s.1 s.2 (nI i))
    (fun i s => ((s.1 = 1 ∧ ∀ p, p < c → qd_k f a2 c p < i → ∀ q, q < e → ¬ a2 (70 * f + p) &&& a2 (70 * h + q) = 0) ∨ (s.1 = 0 ∧ ∃ p, p < c ∧ ∃ q, q < e ∧ a2 (70 * f + p) &&& a2 (70 * h + q) = 0))
      ∧ ((i = 0 ∧ s.2 = (-1)) ∨ ∃ p, p < c ∧ s.2 = a2 (70 * f + p) ∧ qd_k f a2 c p + 1 = i)) c 0 (1, -1) (by omega) ⟨Or.inl ⟨rfl, fun _ _ q => absurd q (by omega)⟩, Or.inl ⟨rfl, rfl⟩⟩ ?_ ?_
  · intro n s t
    refine pk_le c c (fun _ => qd_lsN hd hk hc ha (br_t rfl (qd_mt hd hk hl hc he ha hb (fun z => ?_) (fun z => ?_)))) (fun z => absurd z (by omega))
    · rcases t.1 with ⟨_, t2⟩ | ⟨t1, _⟩
      · obtain ⟨p, hp, q, hq, z⟩ := z
        exact absurd z (t2 p hp (qd_r_in (w := qd_w f a2) hp) q hq)
      · exact br_t t1 (qd_129 hd hk hl hc he ha hb H)
    · rcases t.1 with ⟨t1, _⟩ | ⟨_, p, hp, q, hq, t2⟩
      · exact br_f (by rw [t1]; decide) (qd_129 hd hk hl hc he ha hb H)
      · exact absurd t2 (z p hp q hq)
  · intro n i s hi t hw
    refine pk_le c i (fun z => absurd z (by omega)) (fun _ => qd_ls hd hk hF ha hi (fun p hp r => br_f ?_ (qd_en hd hk hc ha (fun _ => br_t rfl (qd_l64 hd hl hE hb (t.1.elim (fun z => Or.inl z.1) (fun z => Or.inr z.1)) (fun y hy => hw (y, _) ⟨?_, Or.inr ⟨p, hp, rfl, congrArg (· + 1) r⟩⟩))) (fun z => absurd ⟨p, hp, qd_S_r _⟩ z))))
    · have vp := qd_V_c (hF.1 p hp)
      rcases t.2 with ⟨_, z⟩ | ⟨p', hp', z, r'⟩
      · rw [z]
        have e := vp.2
        dsimp only at e vp
        rw [e]
        exact qd_m1 _ vp.1
      · have vp' := qd_V_c (hF.1 p' hp')
        rw [z]
        intro w
        have e := vp.2
        have e' := vp'.2
        dsimp only at e e' vp vp'
        rw [e, e', nI_leI (by omega) (by omega)] at w
        have m := qd_r_mono (w := qd_w f a2) (show qd_w f a2 p ≤ qd_w f a2 p' from w) c
        have r1 : qd_r (qd_w f a2) (qd_w f a2 p) c = i := r
        have r2 : qd_r (qd_w f a2) (qd_w f a2 p') c + 1 = i := r'
        omega
    · rcases hy with ⟨y1, x1, y2⟩ | ⟨y1, y2⟩
      · rcases t.1 with ⟨_, t2⟩ | ⟨t1, _⟩
        · refine Or.inl ⟨y1, fun p' hp' hr q hq => ?_⟩
          by_cases u : qd_k f a2 c p' = i
          · rw [qd_k_inj hF hp' hp (u.trans r.symm)]
            exact y2 q hq
          · exact t2 p' hp' (by omega) q hq
        · rw [t1] at x1
          exact absurd x1 (by decide)
      · rcases y2 with y2 | ⟨q, hq, y2⟩
        · rcases t.1 with ⟨t1, _⟩ | ⟨_, t2⟩
          · rw [t1] at y2
            exact absurd y2 (by decide)
          · exact Or.inr ⟨y1, t2⟩
        · exact Or.inr ⟨y1, p, hp, q, hq, y2⟩
theorem qd_Lleast {post : Int32 → Prop} {G O : Int32} {a1 a2 a3 a4 : Nat → Int32} {d k l f h c e : Nat} (hd : d ≤ 10) (hk : f + k + 1 = d) (hl : h + l + 1 = d) (hF : qd_F c (fun i => a2 (70 * f + i))) (ha : a1 f = nI c) (hE : qd_F e (fun i => a2 (70 * h + i))) (hb : a1 h = nI e) (H : post 1) :
    wpL_least post (nI d, G, O, a1, a2, a3, a4) (nI k) (nI l) := by
  unfold wpL_least
  dsimp only
  exact qd_lss hd hk ha (qd_lss hd hl hb (qd_l22 hd hk hl hF ha hE hb H))
theorem qd_l117 {post : Int32 → St1 → Prop} {G O : Int32} {a1 a2 a3 a4 : Nat → Int32} {d f c e : Nat} (hd : d < 10) (hf : f + 1 = d) (hc : c ≤ 70) (ha : a1 f = nI c) (he : e ≤ 70) (hb : a1 d = nI e)
    (hE : ∀ x, qd_U e (fun i => a2 (70 * d + i)) x ↔ qd_U c (fun i => a2 (70 * f + i)) x) (H : post 1 (nI d, G, O, a1, a2, a3, a4)) :
    ∃ n, wL_dual_117 post (nI d) (nI (d + 1)) G O a1 a2 a3 a4 n 0 := by
  refine pk_loop (σ := Unit) (fun n i _ => wL_dual_117 post (nI d) (nI (d + 1)) G O a1 a2 a3 a4 n (nI i)) (fun _ _ => True) 256 0 () (by omega) trivial ?_ ?_
  · intro n _ _
    exact pk_le 256 256 (fun _ => qd_drop hd (br_t rfl H)) (fun z => absurd z (by omega))
  · intro n i _ hi _ hw
    refine pk_le 256 i (fun z => absurd z (by omega)) (fun _ => qd_en (k := 0) (f := d) (by omega) (by omega) he hb (fun u => ?_) (fun u => ?_))
    · exact qd_en (k := 1) (f := f) (by omega) (by omega) hc ha (fun _ => br_t rfl (nm_r (nI_1 i) (hw () trivial))) (fun v => absurd ((hE _).mp u) v)
    · exact qd_en (k := 1) (f := f) (by omega) (by omega) hc ha (fun v => absurd ((hE _).mpr v) u) (fun _ => br_t rfl (nm_r (nI_1 i) (hw () trivial)))
theorem qd_l55 {post : Int32 → St1 → Prop} {G O : Int32} {a1 a2 a3 a4 : Nat → Int32} {d c w : Nat} (hd : d < 10) (hF : qd_F c (fun i => a2 (70 * d + i))) (ha : a1 d = nI c)
    (hm : ∀ m, m ≤ 9 → (∀ p, p < c → m ≤ qd_n (a2 (70 * d + p))) → (m = 9 ∨ ∃ p, p < c ∧ qd_n (a2 (70 * d + p)) = m) → m = w)
    (HX : ∀ G' O' a1' a2' a3' a4' c', qd_R d c' a1 a2 a1' a2' → (∀ y, qd_U c' (fun i => a2' (70 * d + i)) y ↔ qd_H c (fun i => a2 (70 * d + i)) y) → ∃ n, wL_dual_117 post (nI d) (nI (d + 1)) G' O' a1' a2' a3' a4' n 0) :
    ∃ n, wL_dual_55 post (nI d) (nI w) (nI c) (nI (d + 1)) G O a1 a2 a3 a4 n 9 0 := by
  have hc := qd_70 hF
  refine pk_loop (fun n i m => wL_dual_55 post (nI d) (nI w) (nI c) (nI (d + 1)) G O a1 a2 a3 a4 n (nI m) (nI i))
    (fun i m => m ≤ 9 ∧ (∀ p, p < c → qd_k d a2 c p < i → m ≤ qd_n (a2 (70 * d + p))) ∧ (m = 9 ∨ ∃ p, p < c ∧ qd_n (a2 (70 * d + p)) = m)) c 0 9 (by omega) ⟨Nat.le_refl 9, fun _ _ q => absurd q (by omega), Or.inl rfl⟩ ?_ ?_
  · intro n m t
    refine pk_le c c (fun _ => br_t ?_ (qd_dual hd hF ha (fun G' O' a1' a2' a3' a4' c' r u => br_t (nI_1 d).symm (HX G' O' a1' a2' a3' a4' c' r u)))) (fun z => absurd z (by omega))
    rw [hm m t.1 (fun p hp => t.2.1 p hp (qd_r_in (w := qd_w d a2) hp)) t.2.2]
  · intro n i m hi t hw
    have hm9 := t.1
    refine pk_le c i (fun z => absurd z (by omega)) (fun _ => qd_ls (k := 0) (by omega) (by omega) hF ha hi (fun p hp r => qd_onesL (hF.1 p hp) ?_))
    have hn := qd_n_le (a2 (70 * d + p))
    refine pk_le m (qd_n (a2 (70 * d + p))) (fun z => nm_r (nI_1 i) (hw m ⟨hm9, fun q hq hr => ?_, t.2.2⟩)) (fun z => nm_r (nI_1 i) (hw (qd_n (a2 (70 * d + p))) ⟨by omega, fun q hq hr => ?_, Or.inr ⟨p, hp, rfl⟩⟩))
    · by_cases u : qd_k d a2 c q = i
      · rw [qd_k_inj hF hq hp (u.trans r.symm)]
        exact z
      · exact t.2.1 q hq (by omega)
    · by_cases u : qd_k d a2 c q = i
      · rw [qd_k_inj hF hq hp (u.trans r.symm)]
        exact Nat.le_refl _
      · have := t.2.1 q hq (by omega)
        omega
/-- the law's invariant: d families -/
def qd_D (d : Nat) (a1 a2 : Nat → Int32) : Prop := d ≤ 10 ∧ ∀ f, f < d → ∃ c, a1 f = nI c ∧ qd_F c (fun i => a2 (70 * f + i))
theorem qd_D_c {d : Nat} {a1 a2 a1' a2' : Nat → Int32} (h : qd_D d a1 a2) (h1 : ∀ f, f < d → a1' f = a1 f) (h2 : ∀ j, j < 70 * d → a2' j = a2 j) : qd_D d a1' a2' :=
  ⟨h.1, fun f hf => by
    obtain ⟨c, ha, hF⟩ := h.2 f hf
    have hc := qd_70 hF
    exact ⟨c, by rw [h1 f hf]; exact ha, qd_F_c (fun i hi => h2 (70 * f + i) (by omega)) hF⟩⟩
theorem qd_D_R {d0 d c : Nat} {a1 a2 a1' a2' : Nat → Int32} (h : qd_D d0 a1 a2) (hd : d ≤ d0) (h10 : d < 10) (r : qd_R d c a1 a2 a1' a2') : qd_D (d + 1) a1' a2' :=
  ⟨by omega, fun f hf => by
    by_cases e : f = d
    · rw [e]
      exact ⟨c, r.2.2.1, r.2.2.2⟩
    · obtain ⟨c, ha, hF⟩ := h.2 f (by omega)
      have hc := qd_70 hF
      exact ⟨c, by rw [r.1 f (by omega)]; exact ha, qd_F_c (fun i hi => r.2.1 (70 * f + i) (by omega)) hF⟩⟩
theorem qd_D_d {d d' : Nat} {a1 a2 : Nat → Int32} (h : qd_D d a1 a2) (hd : d' ≤ d) : qd_D d' a1 a2 := by
  have := h.1
  exact ⟨by omega, fun f hf => h.2 f (by omega)⟩
theorem qd_Ldual {post : Int32 → St1 → Prop} {G O : Int32} {a1 a2 a3 a4 : Nat → Int32} {d : Nat} (hD : qd_D d a1 a2)
    (H : ∀ G' O' a1' a2' a3' a4', (∀ f, f < d → a1' f = a1 f) → (∀ j, j < 70 * d → a2' j = a2 j) → post 1 (nI d, G', O', a1', a2', a3', a4')) : wpL_dual post (nI d, G, O, a1, a2, a3, a4) (nI d) := by
  have h10 := hD.1
  refine pk_lt d 1 (fun _ => H _ _ _ _ _ _ (fun _ _ => rfl) (fun _ _ => rfl)) (fun z1 => pk_le d 8 (fun z8 => ?_) (fun _ => H _ _ _ _ _ _ (fun _ _ => rfl) (fun _ _ => rfl)))
  obtain ⟨f, hf⟩ : ∃ f, f + 1 = d := ⟨d - 1, by omega⟩
  obtain ⟨c, ha, hF⟩ := hD.2 f (by omega)
  have hc := qd_70 hF
  refine qd_with (k := 0) (f := f) (by omega) (by omega) hc ha (fun w w9 w1 w2 => ?_)
  refine qd_copy (k := 0) (f := f) (by omega) (by omega) hF ha (fun G1 b1 b2 b3 r1 e1 => br_t (nI_1 d).symm ?_)
  refine qd_dual (by omega) r1.2.2.2 r1.2.2.1 (fun G2 O2 c1 c2 c3 c4 k2 r2 u2 => br_t (nI_1 d).symm ?_)
  have U : ∀ y, qd_U k2 (fun i => c2 (70 * d + i)) y ↔ qd_H c (fun i => a2 (70 * f + i)) y := fun y => (u2 y).trans (qd_H_c e1 y)
  refine qd_lss (k := 0) (f := d) (by omega) (by omega) r2.2.2.1 (qd_l55 (by omega) r2.2.2.2 r2.2.2.1 (fun m m9 m1 m2 => ?_) (fun G3 O3 g1 g2 g3 g4 k3 r3 u3 => ?_))
  · have a : m ≤ w := by
      rcases w2 with z | ⟨x, vx, hx, ex⟩
      · omega
      · obtain ⟨p, hp, s⟩ := (U x).mpr hx
        have t1 := m1 p hp
        have t2 := qd_n_mono (r2.2.2.2.1 p hp) vx s
        dsimp only at t2
        omega
    have b : w ≤ m := by
      rcases m2 with z | ⟨p, hp, e⟩
      · omega
      · rw [← e]
        exact w1 _ (r2.2.2.2.1 p hp) ((U _).mp ⟨p, hp, qd_S_r _⟩)
    omega
  · have A : ∀ x, x < d → g1 x = a1 x := fun x hx => by rw [r3.1 x hx, r2.1 x hx, r1.1 x hx]
    have B : ∀ j, j < 70 * d → g2 j = a2 j := fun j hj => by rw [r3.2.1 j hj, r2.2.1 j hj, r1.2.1 j hj]
    refine qd_l117 (f := f) (by omega) hf hc (by rw [A f (by omega)]; exact ha) (qd_70 r3.2.2.2) r3.2.2.1 (fun x => ?_) (H _ _ _ _ _ _ A B)
    rw [u3 x, qd_dd hF U x]
    exact (qd_U_c (fun i hi => B (70 * f + i) (by omega)) x).symm
end
section
/-! ===== the law's loop ===== -/
abbrev qd_J : Type := Int32 → Int32 → Int32 → Int32 → Int32 → (Nat → Int32) → (Nat → Int32) → (Nat → Int32) → (Nat → Int32) → Prop
theorem qd_3 (i : Nat) : nI i + 3 = nI (i + 3) := nI_add i 3
theorem qd_198 {post : Int32 → Prop} {L : Nat} {xs : Nat → Int32} {J : qd_J} {x5 x6 G O : Int32} {kc ks d i : Nat} {a1 a2 a3 a4 : Nat → Int32} (hD : qd_D d a1 a2)
    (HJ : J (nI d) (nI (i + 3)) (nI d) G O a1 a2 a3 a4) : wL_law_198 post L xs J (nI i) x5 x6 (nI d) kc ks (nI d) G O a1 a2 a3 a4 := by
  have h10 := hD.1
  refine pk_le d 0 (fun _ => nm_r (qd_3 i) HJ) (fun z => br_c (fun _ => ⟨nI_ne0 z (by omega), nI_ne0 z (by omega), ?_⟩) (fun _ => nm_r (qd_3 i) HJ))
  obtain ⟨p, hp, ep⟩ := pk_andE x5 (m := 255) 8 (by decide)
  obtain ⟨q, hq, eq⟩ := pk_andE (x6 >>> ((2 : Int32) &&& 31)) (m := 255) 8 (by decide)
  rw [ep, eq, pk_rem (by omega) z (by omega), pk_rem (by omega) z (by omega)]
  have hp' := Nat.mod_lt p z
  have hq' := Nat.mod_lt q z
  obtain ⟨c, ha, hF⟩ := hD.2 (d - 1 - p % d) (by omega)
  obtain ⟨e, hb, hE⟩ := hD.2 (d - 1 - q % d) (by omega)
  exact qd_Lleast h10 (by omega) (by omega) hF ha hE hb (br_f (by decide) (nm_r (qd_3 i) HJ))
theorem qd_187 {post : Int32 → Prop} {L : Nat} {xs : Nat → Int32} {J : qd_J} {x2 x5 x6 G O : Int32} {kc ks d i : Nat} {a1 a2 a3 a4 : Nat → Int32} (hD : qd_D d a1 a2)
    (HJ : J (nI d) (nI (i + 3)) (nI d) G O a1 a2 a3 a4) : wL_law_187 post L xs J x2 (nI i) x5 x6 (nI d) kc ks (nI d) G O a1 a2 a3 a4 :=
  br_f (nI_pos (by have := hD.1; omega)) (qd_198 hD HJ)
theorem qd_187m {post : Int32 → Prop} {L : Nat} {xs : Nat → Int32} {J : qd_J} {x5 x6 G O : Int32} {kc ks d i : Nat} {a1 a2 a3 a4 : Nat → Int32} (hD : qd_D d a1 a2)
    (HJ : J (nI d) (nI (i + 3)) (nI d) G O a1 a2 a3 a4) : wL_law_187 post L xs J (nI d) (nI i) x5 x6 (-1) kc ks (nI d) G O a1 a2 a3 a4 :=
  br_t (by decide) (qd_198 hD HJ)
theorem qd_177 {post : Int32 → Prop} {L : Nat} {xs : Nat → Int32} {J : qd_J} {x5 x6 G O : Int32} {kc ks d i : Nat} {a1 a2 a3 a4 : Nat → Int32} (hD : qd_D d a1 a2)
    (HJ : ∀ G' O' a1' a2' a3' a4', qd_D d a1' a2' → J (nI d) (nI (i + 3)) (nI d) G' O' a1' a2' a3' a4') : wL_law_177 post L xs J (nI d) (nI i) x5 x6 (-1) kc ks (nI d) G O a1 a2 a3 a4 := by
  unfold wL_law_177
  refine qd_Ldual hD (fun G' O' a1' a2' a3' a4' e1 e2 => br_f (by decide) (qd_187m (qd_D_c hD e1 e2) (HJ _ _ _ _ _ _ (qd_D_c hD e1 e2))))
theorem qd_90 {post : Int32 → Prop} {L : Nat} {xs : Nat → Int32} {J : qd_J} {x5 x6 z G O : Int32} {kc ks d i : Nat} {a1 a2 a3 a4 : Nat → Int32} (hD : qd_D d a1 a2)
    (HJ : ∀ d' G' O' a1' a2' a3' a4', qd_D d' a1' a2' → J (nI d') (nI (i + 3)) (nI d') G' O' a1' a2' a3' a4') : wL_law_90 post L xs J (nI d) (nI i) x5 x6 z kc ks (nI d) G O a1 a2 a3 a4 := by
  have h10 := hD.1
  unfold wL_law_90
  rcases Nat.lt_or_ge d 2 with h | h
  · exact qd_joinN h (qd_187m hD (HJ _ _ _ _ _ _ _ hD))
  · obtain ⟨f, rfl⟩ : ∃ f, d = f + 2 := ⟨d - 2, by omega⟩
    obtain ⟨c, ha, hF⟩ := hD.2 f (by omega)
    obtain ⟨e, hb, hE⟩ := hD.2 (f + 1) (by omega)
    refine qd_join (by omega) hF ha hE hb (fun G' O' a1' a2' a3' a4' c' r => ?_)
    have D' := qd_D_R hD (by omega) (by omega) r
    exact qd_187 D' (HJ _ _ _ _ _ _ _ D')
theorem qd_m5 (x : Int32) : ∃ k, k ≤ 8 ∧ (x &&& 255) - (x &&& 255) / 5 * 5 = nI k := by
  obtain ⟨p, hp, e⟩ := pk_andE x (m := 255) 8 (by decide)
  refine ⟨p % 5, by omega, ?_⟩
  rw [e]
  exact pk_rem (d := 5) (by omega) (by omega) (by omega)
theorem qd_step {L : Nat} {xs : Nat → Int32} {n kc ks d i : Nat} {G O : Int32} {a1 a2 a3 a4 : Nat → Int32} (hL : L ≤ 260) (hi : i ≤ L) (hD : qd_D d a1 a2)
    (hw : i + 3 ≤ L → ∀ d' G' O' a1' a2' a3' a4', qd_D d' a1' a2' → wL_law_12 (fun r => r = 1) L xs kc ks n (nI d') (nI (i + 3)) (nI d') G' O' a1' a2' a3' a4') :
    wL_law_12 (fun r => r = 1) L xs kc ks (n + 1) (nI d) (nI i) (nI d) G O a1 a2 a3 a4 := by
  have h10 := hD.1
  refine pk_lt L (i + 3) (fun _ => qd_Ldual hD (fun _ _ _ _ _ _ _ _ => rfl)) (fun z => ⟨pk_in i L (by omega), ?_⟩) rfl (qd_3 i)
  have W := hw z
  obtain ⟨k, hk, ek⟩ := pk_andE (xs (nI i).toNatClampNeg) (m := 15) 4 (by decide)
  refine nm_r ek ⟨pk_in (i + 1) L (by omega) (nI_1 i), fun x5 _ => ⟨pk_in (i + 2) L (by omega) (nI_add i 2), fun x6 _ => ?_⟩⟩
  refine pk_lt 5 k (fun _ => pk_lt 8 k (fun _ => pk_eq k 9 (fun _ => ?_) (fun _ => pk_eq k 10 (fun _ => ?_) (fun _ => pk_eq k 11 (fun _ => ?_) (fun _ => pk_eq k 12 (fun _ => pk_le d 2 (fun _ => qd_177 hD (W d)) (fun z3 => ?_)) (fun _ => qd_177 hD (W d)))))) (fun _ => br_c (fun _ => qd_90 hD W) (fun _ => qd_90 hD W))) (fun _ => ⟨by decide, ?_⟩)
  · cases d with
    | zero => exact qd_dual0 (qd_187m hD (W _ _ _ _ _ _ _ hD))
    | succ f =>
      obtain ⟨c, ha, hF⟩ := hD.2 f (by omega)
      refine qd_dual (by omega) hF ha (fun G' O' a1' a2' a3' a4' c' r _ => ?_)
      have D' := qd_D_R hD (by omega) (by omega) r
      exact qd_187 D' (W _ _ _ _ _ _ _ D')
  · cases d with
    | zero => exact qd_given0 (qd_187m hD (W _ _ _ _ _ _ _ hD))
    | succ f =>
      obtain ⟨c, ha, hF⟩ := hD.2 f (by omega)
      refine qd_given (by omega) hF ha (fun G' O' a1' a2' a3' a4' c' r => ?_)
      have D' := qd_D_R hD (by omega) (by omega) r
      exact qd_187 D' (W _ _ _ _ _ _ _ D')
  · obtain ⟨q, hq, eq⟩ := pk_andE x5 (m := 7) 3 (by decide)
    rw [eq]
    by_cases h : q < d ∧ d < 10
    · obtain ⟨c, ha, hF⟩ := hD.2 (d - 1 - q) (by omega)
      refine qd_copy h.2 (by omega) hF ha (fun G' a1' a2' a3' r _ => ?_)
      have D' := qd_D_R hD (by omega) (by omega) r
      exact qd_187 D' (W _ _ _ _ _ _ _ D')
    · exact qd_copyN h10 (by omega) h (qd_187m hD (W _ _ _ _ _ _ _ hD))
  · obtain ⟨f, rfl⟩ : ∃ f, d = f + 1 := ⟨d - 1, by omega⟩
    exact qd_drop (by omega) (qd_187 (qd_D_d hD (by omega)) (W _ _ _ _ _ _ _ (qd_D_d hD (by omega))))
  · obtain ⟨q, hq, eq⟩ := qd_m5 x5
    rw [eq]
    rcases Nat.lt_or_ge d 10 with h | h
    · refine qd_al h hq (fun G' O' a1' a2' a3' a4' c' r => ?_)
      have D' := qd_D_R hD (by omega) h r
      exact qd_187 D' (W _ _ _ _ _ _ _ D')
    · have e10 : d = 10 := by omega
      subst e10
      exact qd_alN hq (qd_187m hD (W _ _ _ _ _ _ _ hD))
theorem i_vc (xs : Nat → Int32) (L : Nat) (hL : L ≤ 260) : wpL_law (fun r => r = 1) L xs := by
  refine ⟨4, 852, by omega, by omega, ?_⟩
  refine ⟨by omega, by omega, by omega, by omega, by omega, by omega, by omega, by omega, ?_⟩
  refine loop_m (σ := Nat × Nat × Int32 × Int32 × (Nat → Int32) × (Nat → Int32) × (Nat → Int32) × (Nat → Int32))
    (fun n s => wL_law_12 (fun r => r = 1) L xs (1 + 4) (7 + 852) n (nI s.1) (nI s.2.1) (nI s.1) s.2.2.1 s.2.2.2.1 s.2.2.2.2.1 s.2.2.2.2.2.1 s.2.2.2.2.2.2.1 s.2.2.2.2.2.2.2)
    (fun s => s.2.1 ≤ L ∧ qd_D s.1 s.2.2.2.2.1 s.2.2.2.2.2.1) (fun s => L - s.2.1) ?_ (0, 0, 0, 0, (fun _ => 0), (fun _ => 0), (fun _ => 0), (fun _ => 0)) ⟨Nat.zero_le _, by decide, fun f hf => absurd hf (by omega)⟩
  intro n s h hw
  exact qd_step hL h.1 h.2 (fun h3 d' G' O' a1' a2' a3' a4' D' => hw (d', s.2.1 + 3, G', O', a1', a2', a3', a4') ⟨h3, D'⟩ (by show L - (s.2.1 + 3) < L - s.2.1; omega))
end
