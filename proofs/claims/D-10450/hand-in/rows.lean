section
section
theorem kt_cl {x : Int32} (h : 0 ≤ x.toInt) : ((x.toNatClampNeg : Nat) : Int) = x.toInt := by
  show ((x.toInt.toNat : Nat) : Int) = x.toInt
  omega
theorem kt_ob {x : Int32} (n : Nat) (hn : n < 2 ^ 31) (h0 : 0 ≤ x.toInt) (h1 : x.toInt < n) : ∃ j : Nat, j < n ∧ x = nI j :=
  vp_in_of (vp_in_iff.mpr ⟨h0, h1⟩) hn
theorem kt_rd {a : Nat → Int32} {x : Int32} (m : Nat) (h : m < 2 ^ 31) (e : a m = x) : a (nI m).toNatClampNeg = x := by
  rw [nI_clamp h]
  exact e
theorem kt_st {a : Nat → Int32} {x x' : Int32} (m : Nat) (h : m < 2 ^ 31) (e : x = x') : upd a (nI m).toNatClampNeg x = upd a m x' := by
  rw [nI_clamp h, e]
theorem kt_m1 (x : Int32) : x + (-1) = x - 1 := by rw [Int32.sub_eq_add_neg]
theorem kt_inj {a b : Nat} (h : nI a = nI b) (ha : a < 2 ^ 31) (hb : b < 2 ^ 31) : a = b := (nI_eq ha hb).mp h
theorem kt_neg1 : ((-1) : Int32).toInt = -1 := by decide
theorem kt_lt0 {x : Int32} : x < 0 ↔ x.toInt < 0 := by
  rw [Int32.lt_iff_toInt_lt]
  exact Iff.rfl
theorem kt_ge0 {x : Int32} : 0 ≤ x ↔ 0 ≤ x.toInt := by
  rw [Int32.le_iff_toInt_le]
  exact Iff.rfl
theorem kt_nI0 {n : Nat} (h : n < 2 ^ 31) : ¬ (nI n).toInt < 0 := by
  rw [nI_toInt h]
  omega
theorem kt_up {a : Nat → Int32} {k j : Nat} {x : Int32} : upd a k x j = if j = k then x else a j := rfl
theorem kt_uu {a : Nat → Int32} {k : Nat} {x y : Int32} : upd (upd a k x) k y = upd a k y := by
  funext j
  rw [kt_up, kt_up, kt_up]
  by_cases e : j = k
  · rw [if_pos e, if_pos e]
  · rw [if_neg e, if_neg e, if_neg e]
theorem kt_id {a : Nat → Int32} {k : Nat} : upd a k (a k) = a := by
  funext j
  rw [kt_up]
  by_cases e : j = k
  · rw [if_pos e, e]
  · rw [if_neg e]
/-! sums -/
def kt_sm (f : Nat → Nat) : Nat → Nat
  | 0 => 0
  | n + 1 => kt_sm f n + f n
theorem kt_sm_eq {f g : Nat → Nat} : ∀ {n : Nat}, (∀ i, i < n → f i = g i) → kt_sm f n = kt_sm g n
  | 0, _ => rfl
  | n + 1, h => by
    show kt_sm f n + f n = kt_sm g n + g n
    rw [kt_sm_eq (n := n) (fun i hi => h i (by omega)), h n (by omega)]
theorem kt_sm_ch {f g : Nat → Nat} {k : Nat} : ∀ {n : Nat}, k < n → (∀ i, i < n → i ≠ k → g i = f i) → kt_sm g n + f k = kt_sm f n + g k
  | 0, h, _ => absurd h (by omega)
  | n + 1, h, hg => by
    show kt_sm g n + g n + f k = kt_sm f n + f n + g k
    by_cases e : k = n
    · subst e
      rw [kt_sm_eq (f := g) (g := f) (n := k) (fun i hi => hg i (by omega) (by omega))]
      omega
    · have t := kt_sm_ch (f := f) (g := g) (k := k) (n := n) (by omega) (fun i hi hk => hg i (by omega) hk)
      have u := hg n (by omega) (fun z => e z.symm)
      omega
theorem kt_sm_le {f : Nat → Nat} : ∀ {n : Nat}, (∀ i, i < n → f i ≤ 1) → kt_sm f n ≤ n
  | 0, _ => Nat.le_refl 0
  | n + 1, h => by
    have t := kt_sm_le (f := f) (n := n) (fun i hi => h i (by omega))
    have u := h n (by omega)
    show kt_sm f n + f n ≤ n + 1
    omega
theorem kt_sm_lt {f : Nat → Nat} {k : Nat} : ∀ {n : Nat}, k < n → f k = 0 → (∀ i, i < n → f i ≤ 1) → kt_sm f n < n
  | 0, hk, _, _ => absurd hk (by omega)
  | n + 1, hk, h0, h => by
    have u := h n (by omega)
    show kt_sm f n + f n < n + 1
    by_cases e : k = n
    · have t := kt_sm_le (f := f) (n := n) (fun i hi => h i (by omega))
      rw [e] at h0
      omega
    · have t := kt_sm_lt (f := f) (k := k) (n := n) (by omega) h0 (fun i hi => h i (by omega))
      omega
/-! bits -/
def kt_bt (x : Int32) (i : Nat) : Bool := x.toBitVec.getLsbD i
theorem kt_b_ext {x y : Int32} (h : ∀ i, i < 32 → kt_bt x i = kt_bt y i) : x = y := Int32.toBitVec_inj.mp (BitVec.eq_of_getLsbD_eq (fun i hi => h i hi))
theorem kt_b_or (x y : Int32) (i : Nat) : kt_bt (x ||| y) i = (kt_bt x i || kt_bt y i) := by unfold kt_bt; rw [Int32.toBitVec_or, BitVec.getLsbD_or]
theorem kt_b_and (x y : Int32) (i : Nat) : kt_bt (x &&& y) i = (kt_bt x i && kt_bt y i) := by unfold kt_bt; rw [Int32.toBitVec_and, BitVec.getLsbD_and]
theorem kt_b_xor (x y : Int32) (i : Nat) : kt_bt (x ^^^ y) i = (kt_bt x i ^^ kt_bt y i) := by unfold kt_bt; rw [Int32.toBitVec_xor, BitVec.getLsbD_xor]
theorem kt_b_m1 : ∀ i, i < 32 → kt_bt (-1) i = true := by decide +kernel
theorem kt_b_1 : ∀ i, i < 32 → kt_bt 1 i = decide (i = 0) := by decide +kernel
theorem kt_b_0 (i : Nat) : kt_bt 0 i = false := BitVec.getLsbD_zero
theorem kt_s_l : ∀ n, n < 32 → ((nI n &&& 31).toBitVec.smod 32).toNat = n := by decide +kernel
theorem kt_s_u : ∀ n, n < 32 → (((nI n).toUInt32 &&& Int32.toUInt32 31).toBitVec % 32).toNat = n := by decide +kernel
theorem kt_b_shl (n : Nat) (hn : n < 32) (x : Int32) {i : Nat} (hi : i < 32) : kt_bt (x <<< (nI n &&& 31)) i = (decide (n ≤ i) && kt_bt x (i - n)) := by
  unfold kt_bt
  rw [Int32.toBitVec_shiftLeft]
  show (x.toBitVec <<< ((nI n &&& 31).toBitVec.smod 32).toNat).getLsbD i = _
  rw [kt_s_l n hn, BitVec.getLsbD_shiftLeft]
  rcases Nat.lt_or_ge i n with h | h
  · simp [h, Nat.not_le.mpr h]
  · simp [hi, h, Nat.not_lt.mpr h]
theorem kt_b_ushr (n : Nat) (hn : n < 32) (x : Int32) (i : Nat) : kt_bt ((x.toUInt32 >>> ((nI n).toUInt32 &&& Int32.toUInt32 31)).toInt32) i = kt_bt x (n + i) := by
  show (x.toUInt32 >>> ((nI n).toUInt32 &&& Int32.toUInt32 31)).toBitVec.getLsbD i = x.toUInt32.toBitVec.getLsbD (n + i)
  rw [UInt32.toBitVec_shiftRight]
  show (x.toUInt32.toBitVec >>> (((nI n).toUInt32 &&& Int32.toUInt32 31).toBitVec % 32).toNat).getLsbD i = _
  rw [kt_s_u n hn, BitVec.getLsbD_ushiftRight]
theorem kt_and1 (y : Int32) : (y &&& 1) = 0 ↔ kt_bt y 0 = false := by
  constructor
  · intro h
    have t := congrArg (fun z => kt_bt z 0) h
    (try dsimp only at t)
    rw [kt_b_and, kt_b_1 0 (by omega), kt_b_0] at t
    simpa using t
  · intro h
    refine kt_b_ext (fun i hi => ?_)
    rw [kt_b_and, kt_b_1 i hi, kt_b_0]
    by_cases e : i = 0
    · rw [e, h, Bool.false_and]
    · rw [decide_eq_false e, Bool.and_false]
/-- bit i of s is set, as the code asks it -/
def kt_tb (s : Int32) (i : Nat) : Prop := ¬ ((s.toUInt32 >>> ((nI i).toUInt32 &&& Int32.toUInt32 31)).toInt32 &&& 1) = 0
theorem kt_tb_iff {s : Int32} {i : Nat} (hi : i < 32) : kt_tb s i ↔ kt_bt s i = true := by
  unfold kt_tb
  rw [kt_and1, kt_b_ushr i hi, Nat.add_zero]
  simp
theorem kt_tb_off {s : Int32} {i w : Nat} (hi : i < 32) (hw : w < 32) : kt_tb (s &&& (((1 : Int32) <<< (nI w &&& 31)) ^^^ (-1))) i ↔ kt_tb s i ∧ i ≠ w := by
  rw [kt_tb_iff hi, kt_tb_iff hi, kt_b_and, kt_b_xor, kt_b_m1 i hi, kt_b_shl w hw 1 hi, kt_b_1 (i - w) (by omega)]
  by_cases e : i = w
  · subst e
    simp
  · by_cases e2 : w ≤ i
    · have e3 : ¬ i - w = 0 := by omega
      simp [e, e3]
    · simp [e, e2]
theorem kt_low {post : Int32 → Prop} {s : Int32} (h1 : ∀ i, i < 16 → kt_tb s i → post (nI i)) (h0 : (∀ i, i < 16 → ¬ kt_tb s i) → post (-1)) : wpX_lowestOf post () s :=
  pk_loop (σ := Unit) (fun n i _ => wX_lowestOf_2 post s n (nI i)) (fun i _ => ∀ j, j < i → ¬ kt_tb s j) 16 0 () (by omega) (fun j hj => absurd hj (by omega))
    (fun n _ h => pk_le 16 16 (fun _ => h0 h) (fun z => absurd z (by omega)))
    (fun n i _ hi h hw => pk_le 16 i (fun z => absurd z (by omega)) (fun _ => br_c (fun c => nm_r (nI_1 i) (hw () (lt_s h (fun t => t c)))) (fun c => h1 i hi c)))
/-! the number of set bits among the low 16 -/
def kt_pc (s : Int32) : Nat := kt_sm (fun i => if kt_bt s i = true then 1 else 0) 16
theorem kt_pc_le (s : Int32) : kt_pc s ≤ 16 := by
  refine kt_sm_le (fun i _ => ?_)
  (try dsimp only)
  split <;> omega
theorem kt_pc_off {s : Int32} {w : Nat} (hw : w < 16) (h : kt_tb s w) : kt_pc (s &&& (((1 : Int32) <<< (nI w &&& 31)) ^^^ (-1))) + 1 = kt_pc s := by
  have hw1 : kt_bt s w = true := (kt_tb_iff (by omega)).mp h
  have key : ∀ i, i < 32 → (kt_bt (s &&& (((1 : Int32) <<< (nI w &&& 31)) ^^^ (-1))) i = true ↔ kt_bt s i = true ∧ i ≠ w) := by
    intro i hi
    rw [← kt_tb_iff hi, ← kt_tb_iff hi]
    exact kt_tb_off hi (by omega)
  have t := kt_sm_ch (f := fun i => if kt_bt s i = true then 1 else 0) (g := fun i => if kt_bt (s &&& (((1 : Int32) <<< (nI w &&& 31)) ^^^ (-1))) i = true then 1 else 0) (k := w) (n := 16) hw
    (fun i hi hk => by
      (try dsimp only)
      have k1 := key i (by omega)
      by_cases c : kt_bt s i = true
      · rw [if_pos c, if_pos (k1.mpr ⟨c, hk⟩)]
      · rw [if_neg c, if_neg (fun z => c (k1.mp z).1)])
  (try dsimp only at t)
  rw [if_pos hw1, if_neg (fun z => ((key w (by omega)).mp z).2 rfl)] at t
  exact t
end
end
section
section
variable {q0 q1 q2 : Int32} {a1 a2 a3 a4 a5 a6 a7 a8 a9 a10 a11 a12 a13 a14 a15 a16 a17 a18 a19 : Nat → Int32} {w R : Nat}
/-- the forest of linked numbers: those above w are linked -/
def kt_E (w R : Nat) (a10 a11 : Nat → Int32) : Prop :=
  ∀ x, x < R → (x ≤ w → (a10 x).toInt < 0 ∧ a11 x = nI x) ∧ (w < x → ∃ z l, a10 x = nI z ∧ z < x ∧ a11 x = nI l ∧ w < l ∧ l ≤ x)
/-- the way that was gone, m places of it -/
def kt_P (w R m : Nat) (a10 a12 : Nat → Int32) : Prop :=
  ∀ j, j < m → ∃ y z, a12 j = nI y ∧ w < y ∧ y < R ∧ a10 y = nI z ∧ w < z ∧ z < y ∧ ∀ i, i < j → ∃ y', a12 i = nI y' ∧ y < y' ∧ y' < R
theorem kt_E_put {y z' l' : Nat} {b10 b11 : Nat → Int32} (hE : kt_E w R a10 a11) (hy : w < y) (h10 : b10 = upd a10 y (nI z')) (hz' : z' < y) (h11 : b11 = upd a11 y (nI l')) (hl : w < l') (hl' : l' ≤ y) : kt_E w R b10 b11 := by
  subst h10
  subst h11
  intro x hx
  by_cases e : x = y
  · subst e
    refine ⟨fun h => absurd h (by omega), fun _ => ⟨z', l', pk_us, hz', pk_us, hl, hl'⟩⟩
  · rw [pk_un e, pk_un e]
    exact hE x hx
theorem kt_ev_st {k : Nat} (hR : R ≤ 17) (hE : kt_E w R a10 a11) (hP : kt_P w R (k + 1) a10 a12) :
    ∃ y z l l', y < R ∧ z < R ∧ l < 17 ∧ l' < 17 ∧ a12 k = nI y ∧ a10 y = nI z ∧ a11 z = nI l ∧ a11 y = nI l' ∧ kt_E w R (upd a10 y (a10 z)) a11 ∧ kt_E w R (upd a10 y (a10 z)) (upd a11 y (a11 z)) ∧ kt_P w R k (upd a10 y (a10 z)) a12 := by
  obtain ⟨y, z, e1, h1, h2, e2, h3, h4, h5⟩ := hP k (by omega)
  obtain ⟨zz, l, e3, h6, e4, h7, h8⟩ := (hE z (by omega)).2 h3
  obtain ⟨zy, l', e5, h9, e6, h10, h11⟩ := (hE y h2).2 h1
  refine ⟨y, z, l, l', h2, by omega, by omega, by omega, e1, e2, e4, e6, ?_, ?_, ?_⟩
  · refine kt_E_put hE h1 (by rw [e3]) (by omega) (l' := l') ?_ h10 h11
    rw [← e6]
    exact kt_id.symm
  · exact kt_E_put hE h1 (by rw [e3]) (by omega) (by rw [e4]) h7 (by omega)
  · intro j hj
    obtain ⟨y1, z1, f1, f2, f3, f4, f5, f6, f7⟩ := hP j (by omega)
    obtain ⟨y2, g1, g2, g3⟩ := h5 j hj
    have hne : y1 ≠ y := by
      have t : nI y1 = nI y2 := by rw [← f1, g1]
      have := kt_inj t (by omega) (by omega)
      omega
    exact ⟨y1, z1, f1, f2, f3, by rw [pk_un hne]; exact f4, f5, f6, f7⟩
theorem kt_ev72 {post : Int32 → St1 → Prop} {v : Nat} (hR : R ≤ 17) (hv : v < 17)
    (H : ∀ a10 a11, kt_E w R a10 a11 → post (a11 v) (q0, q1, q2, a1, a2, a3, a4, a5, a6, a7, a8, a9, a10, a11, a12, a13, a14, a15, a16, a17, a18, a19)) :
    ∀ (m : Nat) (a10 a11 : Nat → Int32), m ≤ 17 → kt_E w R a10 a11 → kt_P w R m a10 a12 → wX_evaluate_72 post (nI v) q0 q1 q2 (m + 1) (nI m - 1) a1 a2 a3 a4 a5 a6 a7 a8 a9 a10 a11 a12 a13 a14 a15 a16 a17 a18 a19 := by
  intro m
  induction m with
  | zero =>
    intro a10 a11 _ hE _
    refine br_t (by decide) ⟨pk_in v 17 hv, ?_⟩
    rw [nI_clamp (by omega)]
    exact H a10 a11 hE
  | succ k ih =>
    intro a10 a11 hm hE hP
    obtain ⟨y, z, l, l', hy, hz, hl, hl', e1, e2, e3, e4, E1, E2, P2⟩ := kt_ev_st hR hE hP
    rw [nI_pred]
    refine br_f (nI_pos (by omega)) ⟨pk_in k 18 (by omega), nm_r (kt_rd k (by omega) e1) ⟨pk_in y 17 (by omega), nm_r (kt_rd y (by omega) e2) ⟨pk_in z 17 (by omega), ?_⟩⟩⟩
    rw [nI_clamp (show y < 2 ^ 31 by omega), nI_clamp (show z < 2 ^ 31 by omega), e3, e4]
    refine ⟨pk_in l 17 hl, pk_in y 17 (by omega), pk_in l' 17 hl', br_c (fun _ => ?_) (fun _ => ⟨pk_in z 17 (by omega), pk_in y 17 (by omega), nm_e ?_⟩)⟩
    · unfold wX_evaluate_136
      exact ⟨pk_in z 17 (by omega), pk_in y 17 (by omega), nm_r (kt_st y (by omega) (kt_rd z (by omega) rfl)) (nm_r (kt_m1 _) (ih _ _ (by omega) E1 P2))⟩
    · unfold wX_evaluate_136
      rw [e3] at E2
      exact ⟨pk_in z 17 (by omega), pk_in y 17 (by omega), nm_r (kt_st y (by omega) (kt_rd z (by omega) rfl)) (nm_r (kt_m1 _) (ih _ _ (by omega) E2 P2))⟩
theorem kt_ev23 {post : Int32 → St1 → Prop} {v : Nat} (hR : R ≤ 17) (hv : v < 17) (hE : kt_E w R a10 a11)
    (H : ∀ a10 a11 a12, kt_E w R a10 a11 → post (a11 v) (q0, q1, q2, a1, a2, a3, a4, a5, a6, a7, a8, a9, a10, a11, a12, a13, a14, a15, a16, a17, a18, a19)) :
    ∀ (m n x : Nat) (a12 : Nat → Int32), m + n = 17 → w < x → x < R → kt_P w R n a10 a12 → (∀ j, j < n → ∃ y, a12 j = nI y ∧ x < y ∧ y < R) → wX_evaluate_23 post (nI v) q0 q1 q2 (m + 1) (nI n) (nI x) (nI n) a1 a2 a3 a4 a5 a6 a7 a8 a9 a10 a11 a12 a13 a14 a15 a16 a17 a18 a19 := by
  intro m
  induction m with
  | zero =>
    intro n x a12 hm hwx hx hP hQ
    have hn : n = 17 := by omega
    subst hn
    exact pk_le 17 17 (fun _ => nm_e ⟨_, kt_ev72 hR hv (fun b10 b11 h => H b10 b11 a12 h) 17 a10 a11 (by omega) hE hP⟩) (fun z => absurd z (by omega))
  | succ m ih =>
    intro n x a12 hm hwx hx hP hQ
    obtain ⟨z, l, e1, h1, e2, h2, h3⟩ := (hE x hx).2 hwx
    refine pk_le 17 n (fun z => absurd z (by omega)) (fun _ => ⟨pk_in x 17 (by omega), ?_⟩)
    rw [nI_clamp (show x < 2 ^ 31 by omega), e1]
    refine ⟨pk_in z 17 (by omega), ?_⟩
    rw [nI_clamp (show z < 2 ^ 31 by omega)]
    refine br_c (fun _ => nm_e ⟨_, kt_ev72 hR hv (fun b10 b11 h => H b10 b11 a12 h) n a10 a11 (by omega) hE hP⟩) (fun c => ?_)
    have hwz : w < z := by
      rcases Nat.lt_or_ge w z with g | g
      · exact g
      · exact absurd (kt_lt0.mpr ((hE z (by omega)).1 g).1) c
    refine ⟨pk_in n 18 (by omega), nm_r (kt_st n (by omega) rfl) (nm_r (nI_1 n) ⟨pk_in x 17 (by omega), nm_e (nm_r (nI_1 n) (ih (n + 1) z _ (by omega) hwz (by omega) ?_ ?_))⟩)⟩
    · intro j hj
      by_cases e : j = n
      · subst e
        refine ⟨x, z, pk_us, hwx, hx, e1, hwz, h1, fun i hi => ?_⟩
        rw [pk_un (by omega)]
        exact hQ i hi
      · obtain ⟨y, z', f1, f2, f3, f4, f5, f6, f7⟩ := hP j (by omega)
        refine ⟨y, z', by rw [pk_un e]; exact f1, f2, f3, f4, f5, f6, fun i hi => ?_⟩
        rw [pk_un (by omega)]
        exact f7 i hi
    · intro j hj
      by_cases e : j = n
      · subst e
        exact ⟨x, pk_us, h1, hx⟩
      · obtain ⟨y, f1, f2, f3⟩ := hQ j (by omega)
        exact ⟨y, by rw [pk_un e]; exact f1, by omega, f3⟩
theorem kt_eval {post : Int32 → St1 → Prop} {v : Nat} (hR : R ≤ 17) (hE : kt_E w R a10 a11) (hv : v < R)
    (H : ∀ r a10 a11 a12, kt_E w R a10 a11 → (v ≤ w → r = v) → (w < v → w < r ∧ r ≤ v) → post (nI r) (q0, q1, q2, a1, a2, a3, a4, a5, a6, a7, a8, a9, a10, a11, a12, a13, a14, a15, a16, a17, a18, a19)) :
    wpX_evaluate post (q0, q1, q2, a1, a2, a3, a4, a5, a6, a7, a8, a9, a10, a11, a12, a13, a14, a15, a16, a17, a18, a19) (nI v) := by
  unfold wpX_evaluate
  (try dsimp only)
  refine ⟨pk_in v 17 (by omega), ?_⟩
  rw [nI_clamp (show v < 2 ^ 31 by omega)]
  rcases Nat.lt_or_ge w v with g | g
  · obtain ⟨z, l, e1, h1, e2, h2, h3⟩ := (hE v hv).2 g
    rw [e1]
    refine br_t (nI_pos' (by omega)) ⟨_, kt_ev23 hR (by omega) hE ?_ 17 0 v a12 (by omega) g hv (fun j hj => absurd hj (by omega)) (fun j hj => absurd hj (by omega))⟩
    intro b10 b11 b12 hE'
    obtain ⟨z', l', f1, g1, f2, g2, g3⟩ := (hE' v hv).2 g
    rw [f2]
    exact H l' b10 b11 b12 hE' (fun h => absurd h (by omega)) (fun _ => ⟨g2, g3⟩)
  · obtain ⟨h1, h2⟩ := (hE v hv).1 g
    refine br_f (fun c => absurd (kt_ge0.mp c) (by omega)) ⟨pk_in v 17 (by omega), ?_⟩
    rw [h2]
    exact H v a10 a11 a12 hE (fun _ => rfl) (fun h => absurd h (by omega))
end
end
section
section
variable {M : Nat} {ky sm sm' : Nat → Nat} {pd pd' : Nat → Prop} {a13 a14 : Nat → Int32} {w p h : Nat}
/-- lists by heads a13 and followers a14: list p holds the x of pd with sm x = p, in the order of ky -/
def kt_L (M : Nat) (ky sm : Nat → Nat) (pd : Nat → Prop) (a13 a14 : Nat → Int32) : Prop :=
  (∀ x, pd x → x < 17)
  ∧ (∀ x, pd x → ∃ h, h < 17 ∧ a13 (sm x) = nI h ∧ ky h ≤ ky x)
  ∧ (∀ x y, pd x → pd y → sm x = sm y → ky x < ky y → ∃ h, h < 17 ∧ a14 x = nI h ∧ ky h ≤ ky y)
  ∧ (∀ p, p < M → (a13 p).toInt < 0 ∨ ∃ h, a13 p = nI h ∧ pd h ∧ sm h = p)
  ∧ (∀ x, pd x → (a14 x).toInt < 0 ∨ ∃ h, a14 x = nI h ∧ pd h ∧ sm h = sm x ∧ ky x < ky h)
theorem kt_L_0 (hn : ∀ x, ¬ pd x) (h : ∀ p, p < M → (a13 p).toInt < 0) : kt_L M ky sm pd a13 a14 :=
  ⟨fun x c => absurd c (hn x), fun x c => absurd c (hn x), fun x _ c => absurd c (hn x), fun p hp => Or.inl (h p hp), fun x c => absurd c (hn x)⟩
theorem kt_L_iff (h : kt_L M ky sm pd a13 a14) (e : ∀ x, pd' x ↔ pd x) : kt_L M ky sm pd' a13 a14 := by
  have : pd' = pd := funext (fun x => propext (e x))
  rw [this]
  exact h
theorem kt_L_ins (H : kt_L M ky sm pd a13 a14) (hw : w < 17) (hk : ∀ x, pd x → ky w < ky x) (hs : ∀ x, pd x → sm' x = sm x) (hp : sm' w = p) (hM : p < M) (hd : ∀ x, pd' x ↔ pd x ∨ x = w) :
    kt_L M ky sm' pd' (upd a13 p (nI w)) (upd a14 w (a13 p)) := by
  obtain ⟨h0, h1, h2, h3, h4⟩ := H
  have nw : ∀ x, pd x → x ≠ w := fun x hx e => by
    have := hk x hx
    rw [e] at this
    omega
  refine ⟨?_, ?_, ?_, ?_, ?_⟩
  · intro x hx
    rcases (hd x).mp hx with g | g
    · exact h0 x g
    · omega
  · intro x hx
    rcases (hd x).mp hx with g | g
    · rw [hs x g]
      by_cases e : sm x = p
      · rw [e, pk_us]
        exact ⟨w, hw, rfl, Nat.le_of_lt (hk x g)⟩
      · rw [pk_un e]
        exact h1 x g
    · subst g
      rw [hp, pk_us]
      exact ⟨x, hw, rfl, Nat.le_refl _⟩
  · intro x y hx hy hxy hlt
    rcases (hd x).mp hx with gx | gx
    · rcases (hd y).mp hy with gy | gy
      · rw [pk_un (nw x gx)]
        rw [hs x gx, hs y gy] at hxy
        exact h2 x y gx gy hxy hlt
      · subst gy
        exact absurd (hk x gx) (by omega)
    · subst gx
      rcases (hd y).mp hy with gy | gy
      · rw [pk_us]
        rw [hp, hs y gy] at hxy
        rw [hxy]
        exact h1 y gy
      · subst gy
        exact absurd hlt (by omega)
  · intro p' hp'
    by_cases e : p' = p
    · rw [e, pk_us]
      exact Or.inr ⟨w, rfl, (hd w).mpr (Or.inr rfl), hp⟩
    · rw [pk_un e]
      rcases h3 p' hp' with g | ⟨h, e1, e2, e3⟩
      · exact Or.inl g
      · exact Or.inr ⟨h, e1, (hd h).mpr (Or.inl e2), by rw [hs h e2]; exact e3⟩
  · intro x hx
    rcases (hd x).mp hx with g | g
    · rw [pk_un (nw x g)]
      rcases h4 x g with t | ⟨h, e1, e2, e3, e4⟩
      · exact Or.inl t
      · exact Or.inr ⟨h, e1, (hd h).mpr (Or.inl e2), by rw [hs h e2, hs x g]; exact e3, e4⟩
    · subst g
      rw [pk_us]
      rcases h3 p hM with t | ⟨h, e1, e2, e3⟩
      · exact Or.inl t
      · exact Or.inr ⟨h, e1, (hd h).mpr (Or.inl e2), by rw [hs h e2, hp]; exact e3, hk h e2⟩
theorem kt_L_hd (H : kt_L M ky sm pd a13 a14) (hM : p < M) (e : a13 p = nI h) (hh : h < 17) : pd h ∧ sm h = p := by
  obtain ⟨h0, h1, h2, h3, h4⟩ := H
  rcases h3 p hM with t | ⟨h', e1, e2, e3⟩
  · rw [e] at t
    exact absurd t (kt_nI0 (by omega))
  · have t := h0 h' e2
    have : h = h' := kt_inj (by rw [← e, e1]) (by omega) (by omega)
    rw [this]
    exact ⟨e2, e3⟩
theorem kt_L_nx (H : kt_L M ky sm pd a13 a14) (hp : pd h) : (a14 h).toInt < 0 ∨ ∃ g, a14 h = nI g ∧ g < 17 ∧ pd g ∧ ky h < ky g := by
  obtain ⟨h0, h1, h2, h3, h4⟩ := H
  rcases h4 h hp with t | ⟨g, e1, e2, e3, e4⟩
  · exact Or.inl t
  · exact Or.inr ⟨g, e1, h0 g e2, e2, e4⟩
theorem kt_L_neg (H : kt_L M ky sm pd a13 a14) (e : (a13 p).toInt < 0) : ∀ x, pd x → sm x ≠ p := by
  intro x hx hp
  obtain ⟨h, g1, g2, g3⟩ := H.2.1 x hx
  rw [hp] at g2
  rw [g2] at e
  exact absurd e (kt_nI0 (by omega))
theorem kt_L_pop (H : kt_L M ky sm pd a13 a14) (hM : p < M) (e : a13 p = nI h) (hh : h < 17) (hky : ∀ x y, pd x → pd y → ky x = ky y → x = y) (hd : ∀ x, pd' x ↔ pd x ∧ x ≠ h) :
    kt_L M ky sm pd' (upd a13 p (a14 h)) a14 := by
  obtain ⟨ph, sh⟩ := kt_L_hd H hM e hh
  obtain ⟨h0, h1, h2, h3, h4⟩ := H
  have mn : ∀ x, pd x → sm x = p → ky h ≤ ky x := by
    intro x hx hs
    obtain ⟨h', g1, g2, g3⟩ := h1 x hx
    rw [hs, e] at g2
    have : h = h' := kt_inj g2 (by omega) (by omega)
    rw [this]
    exact g3
  refine ⟨fun x hx => h0 x ((hd x).mp hx).1, ?_, ?_, ?_, ?_⟩
  · intro x hx
    obtain ⟨hx1, hx2⟩ := (hd x).mp hx
    by_cases c : sm x = p
    · rw [c, pk_us]
      have t := mn x hx1 c
      have t2 : ky h ≠ ky x := fun z => hx2 (hky h x ph hx1 z).symm
      exact h2 h x ph hx1 (by rw [sh, c]) (by omega)
    · rw [pk_un c]
      exact h1 x hx1
  · intro x y hx hy
    exact h2 x y ((hd x).mp hx).1 ((hd y).mp hy).1
  · intro p' hp'
    by_cases c : p' = p
    · rw [c, pk_us]
      rcases h4 h ph with t | ⟨g, e1, e2, e3, e4⟩
      · exact Or.inl t
      · refine Or.inr ⟨g, e1, (hd g).mpr ⟨e2, fun z => ?_⟩, by rw [e3, sh]⟩
        rw [z] at e4
        omega
    · rw [pk_un c]
      rcases h3 p' hp' with t | ⟨g, e1, e2, e3⟩
      · exact Or.inl t
      · refine Or.inr ⟨g, e1, (hd g).mpr ⟨e2, fun z => ?_⟩, e3⟩
        rw [z, sh] at e3
        exact c e3.symm
  · intro x hx
    obtain ⟨hx1, hx2⟩ := (hd x).mp hx
    rcases h4 x hx1 with t | ⟨g, e1, e2, e3, e4⟩
    · exact Or.inl t
    · refine Or.inr ⟨g, e1, (hd g).mpr ⟨e2, fun z => ?_⟩, e3, e4⟩
      rw [z] at e4 e3
      have := mn x hx1 (by rw [← e3, sh])
      omega
theorem kt_L_end {c : Int32} (H : kt_L M ky sm pd (upd a13 p c) a14) (hc : c.toInt < 0) : kt_L M ky sm pd (upd a13 p (-1)) a14 := by
  have ne : ∀ x, pd x → sm x ≠ p := kt_L_neg H (by rw [pk_us]; exact hc)
  obtain ⟨h0, h1, h2, h3, h4⟩ := H
  refine ⟨h0, ?_, h2, ?_, h4⟩
  · intro x hx
    have t := h1 x hx
    rw [pk_un (ne x hx)] at t
    rw [pk_un (ne x hx)]
    exact t
  · intro p' hp'
    by_cases e : p' = p
    · rw [e, pk_us]
      exact Or.inl (by decide)
    · have t := h3 p' hp'
      rw [pk_un e] at t
      rw [pk_un e]
      exact t
end
end
section
section
variable {q0 q1 q2 : Int32} {a1 a2 a3 a4 a5 a6 a7 a8 a9 a10 a11 a12 a13 a14 a15 a16 a17 a18 a19 : Nat → Int32} {w R : Nat} {od tp sm : Nat → Nat} {pd pd0 : Nat → Prop}
/-- the numbering as the dominators need it -/
def kt_N (R : Nat) (od tp : Nat → Nat) (a2 a4 a5 : Nat → Int32) : Prop :=
  1 ≤ R ∧ R ≤ 17
  ∧ (∀ x, x < R → a4 x = nI (od x) ∧ od x < 17)
  ∧ (∀ x, 1 ≤ x → x < R → od x < 16 ∧ a5 x = nI (tp x) ∧ tp x < x ∧ kt_tb (a2 (od (tp x))) (od x))
  ∧ (∀ v x, v < x → x < R → kt_tb (a2 (od v)) (od x) → tp (v + 1) = v)
/-- what findSemi keeps of semi[w] when v is next -/
def kt_M (w v : Nat) (tp : Nat → Nat) (a8 b8 : Nat → Int32) : Prop :=
  (∀ x, x ≠ w → b8 x = a8 x) ∧ ∃ s, b8 w = nI s ∧ s ≤ w ∧ (s < w → tp (s + 1) = s) ∧ (tp w < v → s ≤ tp w)
theorem kt_fs9 {post : St1 → Prop} (hN : kt_N R od tp a2 a4 a5) (hw : 1 ≤ w) (hwR : w < R) (h8a : ∀ x, x ≤ w → a8 x = nI x) (h8b : ∀ x, w < x → x < R → a8 x = nI (sm x) ∧ sm x < x ∧ tp (sm x + 1) = sm x)
    (H : ∀ b8 a10 a11 a12, kt_E w R a10 a11 → kt_M w R tp a8 b8 → post (q0, q1, (nI R), a1, a2, a3, a4, a5, a6, a7, b8, a9, a10, a11, a12, a13, a14, a15, a16, a17, a18, a19)) :
    ∀ (m v : Nat) (b8 a10 a11 a12 : Nat → Int32), m + v = R → kt_E w R a10 a11 → kt_M w v tp a8 b8 → wX_findSemi_9 post (nI w) (nI (od w)) (m + 1) (nI v) q0 q1 (nI R) a1 a2 a3 a4 a5 a6 a7 b8 a9 a10 a11 a12 a13 a14 a15 a16 a17 a18 a19 := by
  obtain ⟨hR1, hR, hod, htp, hlf⟩ := hN
  intro m
  induction m with
  | zero =>
    intro v b8 a10 a11 a12 hm hE hM
    have hv : v = R := by omega
    subst hv
    exact pk_le v v (fun _ => H b8 a10 a11 a12 hE hM) (fun z => absurd z (by omega)) (ha := by omega) (hb := by omega)
  | succ m ih =>
    intro v b8 a10 a11 a12 hm hE hM
    obtain ⟨eo, ho⟩ := hod v (by omega)
    obtain ⟨k1, k2, k3, k4⟩ := htp w hw hwR
    refine pk_le R v (fun z => absurd z (by omega)) (fun _ => ⟨pk_in v 17 (by omega), ?_⟩)
    rw [nI_clamp (show v < 2 ^ 31 by omega), eo]
    refine ⟨pk_in (od v) 17 ho, ?_⟩
    rw [nI_clamp (show od v < 2 ^ 31 by omega)]
    obtain ⟨hM1, s, hs1, hs2, hs3, hs4⟩ := hM
    refine br_c (fun c => nm_r (nI_1 v) (ih (v + 1) b8 a10 a11 a12 (by omega) hE ⟨hM1, s, hs1, hs2, hs3, fun g => ?_⟩)) (fun c => ?_)
    · by_cases e : tp w = v
      · rw [e] at k4
        exact absurd c k4
      · exact hs4 (by omega)
    · have c' : kt_tb (a2 (od v)) (od w) := c
      refine kt_eval hR hE (by omega) (fun r b10 b11 b12 hE' hr1 hr2 => ?_)
      have hrR : r < 17 := by
        rcases Nat.lt_or_ge w v with g | g
        · have := hr2 g
          omega
        · have := hr1 g
          omega
      refine ⟨pk_in r 17 hrR, pk_in w 17 (by omega), ?_⟩
      rw [nI_clamp (show r < 2 ^ 31 by omega), nI_clamp (show w < 2 ^ 31 by omega)]
      have key : ∃ t, b8 r = nI t ∧ t < 17 ∧ (t < s → tp (t + 1) = t) ∧ (tp w = v → t = v) := by
        rcases Nat.lt_trichotomy v w with g | g | g
        · have hr := hr1 (by omega)
          rw [hr, hM1 v (by omega), h8a v (by omega)]
          exact ⟨v, rfl, by omega, fun _ => hlf v w g hwR c', fun _ => rfl⟩
        · have hr := hr1 (by omega)
          rw [hr, g, hs1]
          exact ⟨s, rfl, by omega, fun z => absurd z (by omega), fun z => absurd z (by omega)⟩
        · have hr := hr2 g
          have h8 := h8b r (by omega) (by omega)
          rw [hM1 r (by omega), h8.1]
          exact ⟨sm r, rfl, by omega, fun _ => h8.2.2, fun z => absurd z (by omega)⟩
      obtain ⟨t, et, ht, ht2, ht3⟩ := key
      rw [et, hs1]
      refine pk_le s t (fun g => nm_r (nI_1 v) (ih (v + 1) b8 b10 b11 b12 (by omega) hE' ⟨hM1, s, hs1, hs2, hs3, fun g2 => ?_⟩)) (fun g => ⟨pk_in r 17 hrR, pk_in w 17 (by omega), nm_e (nm_r (nI_1 v) (ih (v + 1) _ b10 b11 b12 (by omega) hE' ?_))⟩)
      · by_cases e : tp w = v
        · have := ht3 e
          omega
        · exact hs4 (by omega)
      · refine ⟨fun x hx => by rw [pk_un hx]; exact hM1 x hx, t, pk_us, by omega, fun _ => ht2 g, fun g2 => ?_⟩
        by_cases e : tp w = v
        · have := ht3 e
          omega
        · have := hs4 (by omega)
          omega
theorem kt_fsemi {post : St1 → Prop} (hN : kt_N R od tp a2 a4 a5) (hw : 1 ≤ w) (hwR : w < R) (h8a : ∀ x, x ≤ w → a8 x = nI x) (h8b : ∀ x, w < x → x < R → a8 x = nI (sm x) ∧ sm x < x ∧ tp (sm x + 1) = sm x) (hE : kt_E w R a10 a11)
    (H : ∀ b8 a10 a11 a12 s, kt_E w R a10 a11 → (∀ x, x ≠ w → b8 x = a8 x) → b8 w = nI s → s < w → tp (s + 1) = s → post (q0, q1, (nI R), a1, a2, a3, a4, a5, a6, a7, b8, a9, a10, a11, a12, a13, a14, a15, a16, a17, a18, a19)) :
    wpX_findSemi post (q0, q1, (nI R), a1, a2, a3, a4, a5, a6, a7, a8, a9, a10, a11, a12, a13, a14, a15, a16, a17, a18, a19) (nI w) := by
  have hR := hN.2.1
  have hod := hN.2.2.1 w hwR
  have htp := hN.2.2.2.1 w hw hwR
  unfold wpX_findSemi
  (try dsimp only)
  refine ⟨pk_in w 17 (by omega), nm_r (kt_rd w (by omega) hod.1) ⟨_, kt_fs9 (sm := sm) hN hw hwR h8a h8b ?_ R 0 a8 a10 a11 a12 (by omega) hE ?_⟩⟩
  · intro b8 b10 b11 b12 hE' hM
    obtain ⟨hM1, s, hs1, hs2, hs3, hs4⟩ := hM
    have := hs4 (by omega)
    exact H b8 b10 b11 b12 s hE' hM1 hs1 (by omega) (hs3 (by omega))
  · exact ⟨fun x _ => rfl, w, h8a w (Nat.le_refl w), Nat.le_refl w, fun z => absurd z (by omega), fun z => absurd z (by omega)⟩
end
end
section
section
variable {q0 q1 q2 : Int32} {a1 a2 a3 a4 a5 a6 a7 a8 a9 a10 a11 a12 a13 a14 a15 a16 a17 a18 a19 : Nat → Int32} {w R e p : Nat} {od tp sm : Nat → Nat} {pd pd0 : Nat → Prop}
/-- idom[x] is settled -/
def kt_dn (sm : Nat → Nat) (a9 : Nat → Int32) (x : Nat) : Prop := a9 x = nI (sm x) ∨ ∃ d, a9 x = nI d ∧ 1 ≤ d ∧ d < x
/-- what emptyBucket keeps, against the start (pd0, c9) -/
def kt_J (p : Nat) (sm : Nat → Nat) (pd0 pd : Nat → Prop) (c9 a9 : Nat → Int32) : Prop :=
  (∀ x, pd x → pd0 x) ∧ (∀ x, pd0 x → pd x ∨ (sm x = p ∧ kt_dn sm a9 x)) ∧ (∀ x, ¬ (pd0 x ∧ sm x = p) → a9 x = c9 x)
theorem kt_J_st {pd' : Nat → Prop} {c9 : Nat → Int32} {h : Nat} {z : Int32} (hJ : kt_J p sm pd0 pd c9 a9) (hh : pd h) (hs : sm h = p) (hd : ∀ x, pd' x ↔ pd x ∧ x ≠ h) (hz : z = nI (sm h) ∨ ∃ d, z = nI d ∧ 1 ≤ d ∧ d < h) : kt_J p sm pd0 pd' c9 (upd a9 h z) := by
  obtain ⟨j1, j2, j3⟩ := hJ
  have dh : kt_dn sm (upd a9 h z) h := by
    unfold kt_dn
    rw [pk_us]
    exact hz
  refine ⟨fun x hx => j1 x ((hd x).mp hx).1, fun x hx => ?_, fun x hx => ?_⟩
  · by_cases c : x = h
    · rw [c]
      exact Or.inr ⟨hs, dh⟩
    · rcases j2 x hx with g | ⟨g1, g2⟩
      · exact Or.inl ((hd x).mpr ⟨g, c⟩)
      · refine Or.inr ⟨g1, ?_⟩
        unfold kt_dn
        rw [pk_un c]
        exact g2
  · have c : x ≠ h := fun z => hx (by rw [z]; exact ⟨j1 h hh, hs⟩)
    rw [pk_un c]
    exact j3 x hx
theorem kt_eb9 {post : St1 → Prop} {c9 : Nat → Int32} (hR : R ≤ 17) (hp : p < R) (h8 : ∀ x, e < x → x < R → a8 x = nI (sm x) ∧ sm x < 17)
    (H : ∀ pd a9 a10 a11 a12, kt_E e R a10 a11 → kt_L R id sm pd (upd a13 p (-1)) a14 → (∀ x, pd x ↔ pd0 x ∧ sm x ≠ p) → (∀ x, pd0 x → sm x = p → kt_dn sm a9 x) → (∀ x, ¬ (pd0 x ∧ sm x = p) → a9 x = c9 x) → post (q0, q1, q2, a1, a2, a3, a4, a5, a6, a7, a8, a9, a10, a11, a12, (upd a13 p (-1)), a14, a15, a16, a17, a18, a19))
    (hpd : ∀ x, pd0 x → e < x ∧ x < R) :
    ∀ (m st : Nat) (c : Int32) (pd : Nat → Prop) (a9 a10 a11 a12 : Nat → Int32), m + st = 17 → kt_E e R a10 a11 → kt_L R id sm pd (upd a13 p c) a14 → kt_J p sm pd0 pd c9 a9 → (c.toInt < 0 ∨ ∃ h, c = nI h ∧ st < h ∧ h < 17) → wX_emptyBucket_9 post (nI p) (m + 1) c (nI st) q0 q1 q2 a1 a2 a3 a4 a5 a6 a7 a8 a9 a10 a11 a12 a13 a14 a15 a16 a17 a18 a19 := by
  have fin : ∀ (c : Int32) (pd : Nat → Prop) (a9 a10 a11 a12 : Nat → Int32), c.toInt < 0 → kt_E e R a10 a11 → kt_L R id sm pd (upd a13 p c) a14 → kt_J p sm pd0 pd c9 a9 → post (q0, q1, q2, a1, a2, a3, a4, a5, a6, a7, a8, a9, a10, a11, a12, (upd a13 p (-1)), a14, a15, a16, a17, a18, a19) := by
    intro c pd a9 a10 a11 a12 hc hE hL hJ
    have ne := kt_L_neg hL (p := p) (by rw [pk_us]; exact hc)
    obtain ⟨j1, j2, j3⟩ := hJ
    refine H pd a9 a10 a11 a12 hE (kt_L_end hL hc) (fun x => ⟨fun hx => ⟨j1 x hx, ne x hx⟩, fun hx => ?_⟩) (fun x hx hs => ?_) j3
    · rcases j2 x hx.1 with g | g
      · exact g
      · exact absurd g.1 hx.2
    · rcases j2 x hx with g | g
      · exact absurd hs (ne x g)
      · exact g.2
  intro m
  induction m with
  | zero =>
    intro st c pd a9 a10 a11 a12 hm hE hL hJ hc
    have hst : st = 17 := by omega
    subst hst
    rcases hc with hc | ⟨h, e1, e2, e3⟩
    · refine pk_le 17 17 (fun _ => ⟨pk_in p 17 (by omega), nm_r (kt_st p (by omega) rfl) (fin c pd a9 a10 a11 a12 hc hE hL hJ)⟩) (fun z => absurd z (by omega))
    · exact absurd e2 (by omega)
  | succ m ih =>
    intro st c pd a9 a10 a11 a12 hm hE hL hJ hc
    refine pk_le 17 st (fun z => absurd z (by omega)) (fun _ => ?_)
    rcases hc with hc | ⟨h, e1, e2, e3⟩
    · exact br_t (kt_lt0.mpr hc) ⟨pk_in p 17 (by omega), nm_r (kt_st p (by omega) rfl) (fin c pd a9 a10 a11 a12 hc hE hL hJ)⟩
    · subst e1
      obtain ⟨ph, sh⟩ := kt_L_hd hL (p := p) (h := h) hp pk_us e3
      obtain ⟨he, hhR⟩ := hpd h (hJ.1 h ph)
      refine br_f (nI_pos (by omega)) (kt_eval hR hE hhR (fun r b10 b11 b12 hE' _ hr2 => ?_))
      obtain ⟨hr3, hr4⟩ := hr2 he
      obtain ⟨er, tr⟩ := h8 r hr3 (by omega)
      obtain ⟨eh, th⟩ := h8 h he hhR
      refine ⟨pk_in r 17 (by omega), pk_in h 17 (by omega), ?_⟩
      rw [nI_clamp (show r < 2 ^ 31 by omega), nI_clamp (show h < 2 ^ 31 by omega), er, eh]
      have hL' : kt_L R id sm (fun x => pd x ∧ x ≠ h) (upd a13 p (a14 h)) a14 := by
        have t := kt_L_pop (pd' := fun x => pd x ∧ x ≠ h) hL hp (pk_us (x := nI h)) e3 (fun x y _ _ z => z) (fun x => Iff.rfl)
        rw [kt_uu] at t
        exact t
      have hc' : (a14 h).toInt < 0 ∨ ∃ g, a14 h = nI g ∧ st + 1 < g ∧ g < 17 := by
        rcases kt_L_nx hL ph with g | ⟨g, f1, f2, f3, f4⟩
        · exact Or.inl g
        · have f4' : h < g := f4
          exact Or.inr ⟨g, f1, by omega, f2⟩
      refine pk_le (sm h) (sm r) (fun g => ?_) (fun g => ?_)
      · unfold wX_emptyBucket_53
        refine ⟨pk_in h 17 (by omega), nm_r (kt_st h (by omega) rfl) ⟨pk_in h 17 (by omega), nm_r (kt_rd h (by omega) rfl) (nm_r (nI_1 st) (ih (st + 1) _ _ _ b10 b11 b12 (by omega) hE' hL' ?_ hc'))⟩⟩
        exact kt_J_st hJ ph sh (fun x => Iff.rfl) (Or.inl (by rw [sh]))
      · have hne : r ≠ h := fun z => by
          rw [z] at g
          omega
        unfold wX_emptyBucket_53
        refine ⟨pk_in h 17 (by omega), nm_r (kt_st h (by omega) rfl) ⟨pk_in h 17 (by omega), nm_r (kt_rd h (by omega) rfl) (nm_r (nI_1 st) (ih (st + 1) _ _ _ b10 b11 b12 (by omega) hE' hL' ?_ hc'))⟩⟩
        exact kt_J_st hJ ph sh (fun x => Iff.rfl) (Or.inr ⟨r, rfl, by omega, by omega⟩)
theorem kt_empty {post : St1 → Prop} (hR : R ≤ 17) (hp : p < R) (h8 : ∀ x, e < x → x < R → a8 x = nI (sm x) ∧ sm x < 17) (hpd : ∀ x, pd0 x → e < x ∧ x < R) (hE : kt_E e R a10 a11) (hL : kt_L R id sm pd0 a13 a14)
    (H : ∀ pd b9 a10 a11 a12, kt_E e R a10 a11 → kt_L R id sm pd (upd a13 p (-1)) a14 → (∀ x, pd x ↔ pd0 x ∧ sm x ≠ p) → (∀ x, pd0 x → sm x = p → kt_dn sm b9 x) → (∀ x, ¬ (pd0 x ∧ sm x = p) → b9 x = a9 x) → post (q0, q1, q2, a1, a2, a3, a4, a5, a6, a7, a8, b9, a10, a11, a12, (upd a13 p (-1)), a14, a15, a16, a17, a18, a19)) :
    wpX_emptyBucket post (q0, q1, q2, a1, a2, a3, a4, a5, a6, a7, a8, a9, a10, a11, a12, a13, a14, a15, a16, a17, a18, a19) (nI p) := by
  unfold wpX_emptyBucket
  (try dsimp only)
  refine ⟨pk_in p 17 (by omega), nm_r (kt_rd p (by omega) rfl) ⟨_, kt_eb9 (c9 := a9) (sm := sm) (pd0 := pd0) hR hp h8 H hpd 17 0 _ pd0 a9 a10 a11 a12 (by omega) hE ?_ ⟨fun x h => h, fun x h => Or.inl h, fun x _ => rfl⟩ ?_⟩⟩
  · rw [kt_id]
    exact hL
  · rcases hL.2.2.2.1 p hp with g | ⟨h, e1, e2, e3⟩
    · exact Or.inl g
    · have t := hpd h e2
      exact Or.inr ⟨h, e1, by omega, by omega⟩
theorem kt_fd126 {post : St1 → Prop} (hR : R ≤ 17) (h8 : ∀ x, 1 ≤ x → x < R → a8 x = nI (sm x) ∧ sm x < x)
    (H : ∀ a9, (∀ x, 1 ≤ x → x < R → ∃ d, a9 x = nI d ∧ d < x) → post (q0, q1, (nI R), a1, a2, a3, a4, a5, a6, a7, a8, a9, a10, a11, a12, a13, a14, a15, a16, a17, a18, a19)) :
    ∀ (m w : Nat) (a9 : Nat → Int32), m + w = R → 1 ≤ w → (∀ x, 1 ≤ x → x < w → ∃ d, a9 x = nI d ∧ d < x) → (∀ x, w ≤ x → x < R → kt_dn sm a9 x) → wX_findDominators_126 post q0 q1 (nI R) (m + 1) (nI w) a1 a2 a3 a4 a5 a6 a7 a8 a9 a10 a11 a12 a13 a14 a15 a16 a17 a18 a19 := by
  intro m
  induction m with
  | zero =>
    intro w a9 hm hw h1 h2
    have hv : w = R := by omega
    subst hv
    exact pk_le w w (fun _ => H a9 h1) (fun z => absurd z (by omega))
  | succ m ih =>
    intro w a9 hm hw h1 h2
    obtain ⟨e8, l8⟩ := h8 w hw (by omega)
    refine pk_le R w (fun z => absurd z (by omega)) (fun _ => ⟨pk_in w 17 (by omega), pk_in w 17 (by omega), ?_⟩)
    rw [nI_clamp (show w < 2 ^ 31 by omega)]
    refine br_c (fun c => nm_r (nI_1 w) (ih (w + 1) a9 (by omega) (by omega) (fun x hx1 hx2 => ?_) (fun x hx1 hx2 => h2 x (by omega) hx2))) (fun c => ?_)
    · by_cases ex : x = w
      · rw [ex, c, e8]
        exact ⟨sm w, rfl, l8⟩
      · exact h1 x hx1 (by omega)
    · rcases h2 w (Nat.le_refl w) (by omega) with g | ⟨d, ed, d1, d2⟩
      · rw [e8] at c
        exact absurd g c
      · obtain ⟨d', ed', ld'⟩ := h1 d d1 d2
        refine ⟨pk_in w 17 (by omega), by rw [ed]; exact pk_in d 17 (by omega), pk_in w 17 (by omega), nm_r (e' := upd a9 w (nI d')) (by rw [ed, nI_clamp (show d < 2 ^ 31 by omega), ed']) (nm_r (nI_1 w) (ih (w + 1) _ (by omega) (by omega) (fun x hx1 hx2 => ?_) (fun x hx1 hx2 => ?_)))⟩
        · by_cases ex : x = w
          · rw [ex, pk_us]
            exact ⟨d', rfl, by omega⟩
          · rw [pk_un ex]
            exact h1 x hx1 (by omega)
        · unfold kt_dn
          rw [pk_un (by omega)]
          exact h2 x (by omega) hx2
end
end
section
section
variable {q0 q1 q2 : Int32} {a1 a2 a3 a4 a5 a6 a7 a8 a9 a10 a11 a12 a13 a14 a15 a16 a17 a18 a19 : Nat → Int32} {w R : Nat} {od tp sm : Nat → Nat} {pd : Nat → Prop}
/-- the state of findDominators when the numbers above w are done -/
def kt_D (w R : Nat) (tp sm : Nat → Nat) (pd : Nat → Prop) (a8 a9 a10 a11 a13 a14 : Nat → Int32) : Prop :=
  kt_E w R a10 a11
  ∧ (∀ x, x ≤ w → a8 x = nI x)
  ∧ (∀ x, w < x → x < R → a8 x = nI (sm x) ∧ sm x < x ∧ tp (sm x + 1) = sm x)
  ∧ kt_L R id sm pd a13 a14
  ∧ (∀ x, pd x → w < x ∧ x < R ∧ sm x + 1 ≤ w)
  ∧ (∀ x, w < x → x < R → pd x ∨ kt_dn sm a9 x)
theorem kt_E_link {t : Nat} (hE : kt_E (w + 1) R a10 a11) (ht : t < w + 1) : kt_E w R (upd a10 (w + 1) (nI t)) a11 := by
  intro x hx
  obtain ⟨k1, k2⟩ := hE x hx
  by_cases e : x = w + 1
  · subst e
    refine ⟨fun h => absurd h (by omega), fun _ => ⟨t, w + 1, pk_us, ht, (k1 (Nat.le_refl _)).2, by omega, Nat.le_refl _⟩⟩
  · rw [pk_un e]
    refine ⟨fun h => k1 (by omega), fun h => ?_⟩
    obtain ⟨z, l, g1, g2, g3, g4, g5⟩ := k2 (by omega)
    exact ⟨z, l, g1, g2, g3, by omega, g5⟩
theorem kt_fd58 {post : St1 → Prop} (hN : kt_N R od tp a2 a4 a5)
    (H : ∀ a8 a9 a10 a11 a12 a13 a14, (∀ x, 1 ≤ x → x < R → ∃ d, a9 x = nI d ∧ d < x) → post (q0, q1, (nI R), a1, a2, a3, a4, a5, a6, a7, a8, a9, a10, a11, a12, a13, a14, a15, a16, a17, a18, a19)) :
    ∀ (w : Nat) (sm : Nat → Nat) (pd : Nat → Prop) (a8 a9 a10 a11 a12 a13 a14 : Nat → Int32), w < R → kt_D w R tp sm pd a8 a9 a10 a11 a13 a14 → wX_findDominators_58 post (w + 1) (nI w) q0 q1 (nI R) a1 a2 a3 a4 a5 a6 a7 a8 a9 a10 a11 a12 a13 a14 a15 a16 a17 a18 a19 := by
  have hR := hN.2.1
  intro w
  induction w with
  | zero =>
    intro sm pd a8 a9 a10 a11 a12 a13 a14 hw hD
    obtain ⟨d1, d2, d3, d4, d5, d6⟩ := hD
    refine pk_le 0 0 (fun _ => ⟨_, kt_fd126 (sm := sm) hR (fun x h1 h2 => ⟨(d3 x (by omega) h2).1, (d3 x (by omega) h2).2.1⟩) (fun b9 hb => H a8 b9 a10 a11 a12 a13 a14 hb) (R - 1) 1 a9 (by omega) (by omega) (fun x h1 h2 => absurd h2 (by omega)) (fun x h1 h2 => ?_)⟩) (fun z => absurd z (by omega))
    rcases d6 x (by omega) h2 with g | g
    · have := d5 x g
      omega
    · exact g
  | succ w ih =>
    intro sm pd a8 a9 a10 a11 a12 a13 a14 hw hD
    obtain ⟨d1, d2, d3, d4, d5, d6⟩ := hD
    obtain ⟨k1, k2, k3, k4⟩ := hN.2.2.2.1 (w + 1) (by omega) hw
    refine pk_le (w + 1) 0 (fun z => absurd z (by omega)) (fun _ => kt_fsemi (sm := sm) hN (by omega) hw d2 d3 d1 (fun b8 b10 b11 b12 s hE hb8 es hs hts => ?_))
    have c8 : b8 (nI (w + 1)).toNatClampNeg = nI s := kt_rd (w + 1) (by omega) es
    refine ⟨pk_in (w + 1) 17 (by omega), ?_⟩
    rw [c8]
    refine ⟨pk_in s 17 (by omega), pk_in (w + 1) 17 (by omega), nm_r (kt_st (w + 1) (by omega) (kt_rd s (by omega) rfl)) ⟨pk_in (w + 1) 17 (by omega), pk_in s 17 (by omega), nm_r (kt_st s (by omega) rfl) ⟨pk_in (w + 1) 17 (by omega), pk_in (w + 1) 17 (by omega), nm_r (kt_st (w + 1) (by omega) (kt_rd (w + 1) (by omega) k2)) ⟨pk_in (w + 1) 17 (by omega), ?_⟩⟩⟩⟩
    rw [kt_rd (w + 1) (by omega) k2]
    obtain ⟨sm', sx, sw⟩ : ∃ sm' : Nat → Nat, (∀ x, x ≠ w + 1 → sm' x = sm x) ∧ sm' (w + 1) = s := ⟨fun x => if x = w + 1 then s else sm x, fun x hx => if_neg hx, if_pos rfl⟩
    have D3 : ∀ x, w < x → x < R → b8 x = nI (sm' x) ∧ sm' x < x ∧ tp (sm' x + 1) = sm' x := by
      intro x h1 h2
      by_cases ex : x = w + 1
      · rw [ex, sw]
        exact ⟨es, hs, hts⟩
      · rw [sx x ex, hb8 x ex]
        exact d3 x (by omega) h2
    have pne : ∀ x, pd x → x ≠ w + 1 := fun x hx => by
      have := d5 x hx
      omega
    have hL : kt_L R id sm' (fun x => pd x ∨ x = w + 1) (upd a13 s (nI (w + 1))) (upd a14 (w + 1) (a13 s)) :=
      kt_L_ins d4 (by omega) (fun x hx => (d5 x hx).1) (fun x hx => sx x (pne x hx)) sw (by omega) (fun x => Iff.rfl)
    refine kt_empty (sm := sm') (pd0 := fun x => pd x ∨ x = w + 1) (e := w) hR (by omega) (fun x h1 h2 => ⟨(D3 x h1 h2).1, ?_⟩) (fun x hx => ?_) (kt_E_link hE k3) hL (fun pd' c9 c10 c11 c12 hE' hL' hpd' hdn' h9' => ?_)
    · have := (D3 x h1 h2).2.1
      omega
    · rcases hx with g | g
      · have := d5 x g
        omega
      · omega
    · refine nm_r (pk_m1 w) (ih sm' pd' b8 c9 c10 c11 c12 _ _ (by omega) ⟨hE', fun x hx => ?_, D3, hL', fun x hx => ?_, fun x h1 h2 => ?_⟩)
      · rw [hb8 x (by omega)]
        exact d2 x (by omega)
      · obtain ⟨g1, g2⟩ := (hpd' x).mp hx
        have t1 : w < x ∧ x < R ∧ sm' x + 1 ≤ w + 1 := by
          rcases g1 with g | g
          · have t := d5 x g
            rw [sx x (pne x g)]
            omega
          · rw [g, sw]
            omega
        refine ⟨t1.1, t1.2.1, ?_⟩
        have t2 := (D3 x t1.1 t1.2.1).2.2
        rcases Nat.lt_or_ge w (sm' x + 1) with g | g
        · have t3 : sm' x + 1 = w + 1 := by omega
          rw [t3] at t2
          exact absurd t2.symm g2
        · exact g
      · by_cases c : pd' x
        · exact Or.inl c
        · refine Or.inr ?_
          by_cases g : (pd x ∨ x = w + 1)
          · by_cases g2 : sm' x = tp (w + 1)
            · exact hdn' x g g2
            · exact absurd ((hpd' x).mpr ⟨g, g2⟩) c
          · have g3 : x ≠ w + 1 := fun z => g (Or.inr z)
            unfold kt_dn
            rw [h9' x (fun z => g z.1), sx x g3]
            rcases d6 x (by omega) h2 with t | t
            · exact absurd (Or.inl t) g
            · exact t
theorem kt_fd2 {post : St1 → Prop} (hN : kt_N R od tp a2 a4 a5)
    (H : ∀ a8 a9 a10 a11 a12 a13 a14, (∀ x, 1 ≤ x → x < R → ∃ d, a9 x = nI d ∧ d < x) → post (q0, q1, (nI R), a1, a2, a3, a4, a5, a6, a7, a8, a9, a10, a11, a12, a13, a14, a15, a16, a17, a18, a19)) :
    ∀ (m i : Nat) (a8 a9 a10 a11 a13 : Nat → Int32), m + i = R → (∀ x, x < i → a8 x = nI x ∧ (a10 x).toInt < 0 ∧ a11 x = nI x ∧ (a13 x).toInt < 0) → wX_findDominators_2 post q0 q1 (nI R) (m + 1) (nI i) a1 a2 a3 a4 a5 a6 a7 a8 a9 a10 a11 a12 a13 a14 a15 a16 a17 a18 a19 := by
  have hR := hN.2.1
  have hR1 := hN.1
  intro m
  induction m with
  | zero =>
    intro i a8 a9 a10 a11 a13 hm hI
    have hi : i = R := by omega
    subst hi
    obtain ⟨r, hr⟩ : ∃ r, i = r + 1 := ⟨i - 1, by omega⟩
    refine pk_le i i (fun _ => nm_r (e' := nI r) (by rw [hr]; exact nI_pred r) ⟨_, kt_fd58 hN H r id (fun _ => False) a8 a9 a10 a11 a12 a13 a14 (by omega) ⟨?_, ?_, ?_, ?_, ?_, ?_⟩⟩) (fun z => absurd z (by omega))
    · intro x hx
      exact ⟨fun _ => ⟨(hI x hx).2.1, (hI x hx).2.2.1⟩, fun h => absurd h (by omega)⟩
    · exact fun x hx => (hI x (by omega)).1
    · exact fun x h1 h2 => absurd h2 (by omega)
    · exact kt_L_0 (fun x h => h) (fun p hp => (hI p hp).2.2.2)
    · exact fun x h => absurd h (fun z => z)
    · exact fun x h1 h2 => absurd h2 (by omega)
  | succ m ih =>
    intro i a8 a9 a10 a11 a13 hm hI
    refine pk_le R i (fun z => absurd z (by omega)) (fun _ => ⟨pk_in i 17 (by omega), nm_r (kt_st i (by omega) rfl) ⟨pk_in i 17 (by omega), nm_r (kt_st i (by omega) rfl) ⟨pk_in i 17 (by omega), nm_r (kt_st i (by omega) rfl) ⟨pk_in i 17 (by omega), nm_r (kt_st i (by omega) rfl) ⟨pk_in i 17 (by omega), nm_r (kt_st i (by omega) rfl) (nm_r (nI_1 i) (ih (i + 1) _ _ _ _ _ (by omega) (fun x hx => ?_)))⟩⟩⟩⟩⟩)
    by_cases ex : x = i
    · rw [ex, pk_us, pk_us, pk_us, pk_us]
      exact ⟨rfl, by decide, rfl, by decide⟩
    · rw [pk_un ex, pk_un ex, pk_un ex, pk_un ex]
      exact hI x (by omega)
theorem kt_fdom {post : St1 → Prop} (hN : kt_N R od tp a2 a4 a5)
    (H : ∀ a8 a9 a10 a11 a12 a13 a14, (∀ x, 1 ≤ x → x < R → ∃ d, a9 x = nI d ∧ d < x) → post (q0, q1, (nI R), a1, a2, a3, a4, a5, a6, a7, a8, a9, a10, a11, a12, a13, a14, a15, a16, a17, a18, a19)) :
    wpX_findDominators post (q0, q1, (nI R), a1, a2, a3, a4, a5, a6, a7, a8, a9, a10, a11, a12, a13, a14, a15, a16, a17, a18, a19) := by
  unfold wpX_findDominators
  (try dsimp only)
  exact ⟨_, kt_fd2 hN H R 0 a8 a9 a10 a11 a13 (by omega) (fun x hx => absurd hx (by omega))⟩
end
end
section
section
variable {q0 q1 q2 : Int32} {a1 a2 a3 a4 a5 a6 a7 a8 a9 a10 a11 a12 a13 a14 a15 a16 a17 a18 a19 : Nat → Int32} {R D st d w : Nat} {od tp sk : Nat → Nat}
/-- number and order undo each other -/
def kt_O (R : Nat) (od : Nat → Nat) (a3 : Nat → Int32) : Prop :=
  (∀ x, x < R → a3 (od x) = nI x) ∧ (∀ v, v < 17 → (a3 v).toInt < 0 ∨ ∃ x, x < R ∧ od x = v) ∧ od 0 = 16
/-- the state of the walk that numbers: v has its first tree child, or all it refers to is numbered before, or it is on top -/
def kt_lf (R D v : Nat) (od tp sk : Nat → Nat) (a2 a7 : Nat → Int32) : Prop :=
  (v + 1 < R ∧ tp (v + 1) = v)
  ∨ (∀ i, i < 16 → kt_tb (a2 (od v)) i → ∃ x, x ≤ v ∧ od x = i)
  ∨ (v + 1 = R ∧ ∃ d, D = d + 1 ∧ sk d = od v ∧ ∀ i, i < 16 → kt_tb (a2 (od v)) i → kt_tb (a7 d) i ∨ ∃ x, x < R ∧ od x = i)
def kt_V (R D st : Nat) (od tp sk : Nat → Nat) (a2 a3 a4 a5 a6 a7 : Nat → Int32) : Prop :=
  (1 ≤ R ∧ R ≤ 17 ∧ D ≤ R ∧ od 0 = 16)
  ∧ kt_sm (fun v => if (a3 v).toInt < 0 then 0 else 1) 17 = R
  ∧ kt_sm (fun d => kt_pc (a7 d) + 1) D + 17 * (17 - R) + st ≤ 289
  ∧ (∀ x, x < R → a4 x = nI (od x) ∧ od x < 17 ∧ a3 (od x) = nI x)
  ∧ (∀ v, v < 17 → (a3 v).toInt < 0 ∨ ∃ x, x < R ∧ od x = v)
  ∧ (∀ x, 1 ≤ x → x < R → a5 x = nI (tp x) ∧ tp x < x ∧ kt_tb (a2 (od (tp x))) (od x))
  ∧ (∀ d, d < D → a6 d = nI (sk d) ∧ ∃ x, x < R ∧ od x = sk d)
  ∧ (∀ d i, d < D → i < 16 → kt_tb (a7 d) i → kt_tb (a2 (sk d)) i)
  ∧ (∀ v, v < R → kt_lf R D v od tp sk a2 a7)
theorem kt_V_end (h : kt_V R 0 st od tp sk a2 a3 a4 a5 a6 a7) : kt_N R od tp a2 a4 a5 ∧ kt_O R od a3 := by
  obtain ⟨⟨hR1, hR, _, h0⟩, hc, hs, ho, hv, ht, hk, hu, hl⟩ := h
  have inj : ∀ x y, x < R → y < R → od x = od y → x = y := by
    intro x y hx hy e
    have e1 := (ho x hx).2.2
    have e2 := (ho y hy).2.2
    rw [e, e2] at e1
    exact (kt_inj e1 (by omega) (by omega)).symm
  have l16 : ∀ x, 1 ≤ x → x < R → od x < 16 := by
    intro x h1 h2
    have t := (ho x h2).2.1
    have t2 : od x ≠ 16 := fun z => by
      have := inj x 0 h2 (by omega) (by rw [z, h0])
      omega
    omega
  refine ⟨⟨hR1, hR, fun x hx => ⟨(ho x hx).1, (ho x hx).2.1⟩, fun x h1 h2 => ⟨l16 x h1 h2, ht x h1 h2⟩, fun v x h1 h2 h3 => ?_⟩, fun x hx => (ho x hx).2.2, hv, h0⟩
  rcases hl v (by omega) with g | g | ⟨_, d, g, _⟩
  · exact g.2
  · obtain ⟨x', g1, g2⟩ := g (od x) (l16 x (by omega) h2) h3
    have := inj x' x (by omega) h2 g2
    omega
  · omega
theorem kt_V_pop (h : kt_V R (d + 1) st od tp sk a2 a3 a4 a5 a6 a7) (hn : ∀ i, i < 16 → ¬ kt_tb (a7 d) i) : kt_V R d (st + 1) od tp sk a2 a3 a4 a5 a6 a7 := by
  obtain ⟨⟨hR1, hR, hD, h0⟩, hc, hs, ho, hv, ht, hk, hu, hl⟩ := h
  refine ⟨⟨hR1, hR, by omega, h0⟩, hc, ?_, ho, hv, ht, fun d' h' => hk d' (by omega), fun d' i h' => hu d' i (by omega), fun v hv' => ?_⟩
  · have t : kt_sm (fun d => kt_pc (a7 d) + 1) (d + 1) = kt_sm (fun d => kt_pc (a7 d) + 1) d + (kt_pc (a7 d) + 1) := rfl
    omega
  · rcases hl v hv' with g | g | ⟨g1, d', g2, g3, g4⟩
    · exact Or.inl g
    · exact Or.inr (Or.inl g)
    · refine Or.inr (Or.inl (fun i hi hb => ?_))
      have e : d' = d := by omega
      subst e
      rcases g4 i hi hb with t | ⟨x, t1, t2⟩
      · exact absurd t (hn i hi)
      · exact ⟨x, by omega, t2⟩
theorem kt_V_old {b7 : Nat → Int32} (h : kt_V R (d + 1) st od tp sk a2 a3 a4 a5 a6 a7) (hw : w < 16) (hb : kt_tb (a7 d) w) (e : b7 = upd a7 d (a7 d &&& (((1 : Int32) <<< (nI w &&& 31)) ^^^ (-1)))) (hn : 0 ≤ (a3 w).toInt) :
    kt_V R (d + 1) (st + 1) od tp sk a2 a3 a4 a5 a6 b7 := by
  obtain ⟨⟨hR1, hR, hD, h0⟩, hc, hs, ho, hv, ht, hk, hu, hl⟩ := h
  have bd : b7 d = a7 d &&& (((1 : Int32) <<< (nI w &&& 31)) ^^^ (-1)) := by rw [e, pk_us]
  have bo : ∀ j, j ≠ d → b7 j = a7 j := fun j hj => by rw [e, pk_un hj]
  refine ⟨⟨hR1, hR, hD, h0⟩, hc, ?_, ho, hv, ht, hk, fun d' i h' hi hb' => ?_, fun v hv' => ?_⟩
  · have t := kt_sm_ch (f := fun d => kt_pc (a7 d) + 1) (g := fun d => kt_pc (b7 d) + 1) (k := d) (n := d + 1) (by omega) (fun i _ hi => by (try dsimp only); rw [bo i hi])
    (try dsimp only at t)
    have t2 := kt_pc_off hw hb
    rw [bd] at t
    omega
  · by_cases c : d' = d
    · subst c
      rw [bd] at hb'
      exact hu d' i h' hi ((kt_tb_off (by omega) (by omega)).mp hb').1
    · rw [bo d' c] at hb'
      exact hu d' i h' hi hb'
  · rcases hl v hv' with g | g | ⟨g1, d', g2, g3, g4⟩
    · exact Or.inl g
    · exact Or.inr (Or.inl g)
    · refine Or.inr (Or.inr ⟨g1, d', g2, g3, fun i hi hb' => ?_⟩)
      have e' : d' = d := by omega
      subst e'
      by_cases c : i = w
      · rcases hv w (by omega) with t | t
        · omega
        · rw [c]
          exact Or.inr t
      · rcases g4 i hi hb' with t | t
        · rw [bd]
          exact Or.inl ((kt_tb_off (by omega) (by omega)).mpr ⟨t, c⟩)
        · exact Or.inr t
theorem kt_V_lt (h : kt_V R D st od tp sk a2 a3 a4 a5 a6 a7) (hw : w < 17) (hn : (a3 w).toInt < 0) : R < 17 := by
  have hc := h.2.1
  have t := kt_sm_lt (f := fun v => if (a3 v).toInt < 0 then 0 else 1) (k := w) (n := 17) hw (if_pos hn) (fun i _ => by (try dsimp only); split <;> omega)
  omega
theorem kt_V_new {b3 b4 b5 b6 b7 b7' : Nat → Int32} (h : kt_V R (d + 1) st od tp sk a2 a3 a4 a5 a6 a7) (hw : w < 16) (hb : kt_tb (a7 d) w) (e : b7' = upd a7 d (a7 d &&& (((1 : Int32) <<< (nI w &&& 31)) ^^^ (-1)))) (hn : (a3 w).toInt < 0)
    (e3 : b3 = upd a3 w (nI R)) (e4 : b4 = upd a4 R (nI w)) (e5 : b5 = upd a5 R (a3 (sk d))) (e6 : b6 = upd a6 (d + 1) (nI w)) (e7 : b7 = upd b7' (d + 1) (a2 w)) :
    ∃ od' tp' sk', kt_V (R + 1) (d + 2) (st + 1) od' tp' sk' a2 b3 b4 b5 b6 b7 := by
  have hR17 := kt_V_lt h (show w < 17 by omega) hn
  obtain ⟨⟨hR1, hR, hD, h0⟩, hc, hs, ho, hv, ht, hk, hu, hl⟩ := h
  have bd : b7' d = a7 d &&& (((1 : Int32) <<< (nI w &&& 31)) ^^^ (-1)) := by rw [e, pk_us]
  have bo : ∀ j, j ≠ d → b7' j = a7 j := fun j hj => by rw [e, pk_un hj]
  have nw : ∀ x, x < R → od x ≠ w := fun x hx z => by
    have t := (ho x hx).2.2
    rw [z] at t
    rw [t] at hn
    exact absurd hn (kt_nI0 (by omega))
  obtain ⟨hk1, xd, hx1, hx2⟩ := hk d (by omega)
  have ha3 : a3 (sk d) = nI xd := by rw [← hx2]; exact (ho xd hx1).2.2
  obtain ⟨od', oo, ow⟩ : ∃ od' : Nat → Nat, (∀ x, x ≠ R → od' x = od x) ∧ od' R = w := ⟨fun x => if x = R then w else od x, fun x hx => if_neg hx, if_pos rfl⟩
  obtain ⟨tp', to, tw⟩ : ∃ tp' : Nat → Nat, (∀ x, x ≠ R → tp' x = tp x) ∧ tp' R = xd := ⟨fun x => if x = R then xd else tp x, fun x hx => if_neg hx, if_pos rfl⟩
  obtain ⟨sk', so, sw⟩ : ∃ sk' : Nat → Nat, (∀ x, x ≠ d + 1 → sk' x = sk x) ∧ sk' (d + 1) = w := ⟨fun x => if x = d + 1 then w else sk x, fun x hx => if_neg hx, if_pos rfl⟩
  have od_o : ∀ x, x < R → od' x = od x := fun x hx => oo x (by omega)
  have sk_o : ∀ x, x < d + 1 → sk' x = sk x := fun x hx => so x (by omega)
  refine ⟨od', tp', sk', ⟨by omega, by omega, by omega, by rw [oo 0 (by omega)]; exact h0⟩, ?_, ?_, ?_, ?_, ?_, ?_, ?_, ?_⟩
  · have t := kt_sm_ch (f := fun v => if (a3 v).toInt < 0 then 0 else 1) (g := fun v => if (b3 v).toInt < 0 then 0 else 1) (k := w) (n := 17) (by omega) (fun i _ hi => by (try dsimp only); rw [e3, pk_un hi])
    (try dsimp only at t)
    rw [if_pos hn, e3, pk_us, if_neg (kt_nI0 (by omega)), ← e3] at t
    omega
  · have t := kt_sm_ch (f := fun d => kt_pc (a7 d) + 1) (g := fun d => kt_pc (b7 d) + 1) (k := d) (n := d + 1) (by omega) (fun i hi hi2 => by (try dsimp only); rw [e7, pk_un (by omega), bo i hi2])
    (try dsimp only at t)
    have t2 := kt_pc_off hw hb
    have t3 : b7 d = a7 d &&& (((1 : Int32) <<< (nI w &&& 31)) ^^^ (-1)) := by rw [e7, pk_un (by omega), bd]
    rw [t3] at t
    have t4 : kt_sm (fun d => kt_pc (b7 d) + 1) (d + 2) = kt_sm (fun d => kt_pc (b7 d) + 1) (d + 1) + (kt_pc (b7 (d + 1)) + 1) := rfl
    have t5 := kt_pc_le (b7 (d + 1))
    omega
  · intro x hx
    by_cases c : x = R
    · subst c
      rw [ow, e4, e3, pk_us, pk_us]
      exact ⟨rfl, by omega, rfl⟩
    · have hx' : x < R := by omega
      rw [oo x c, e4, e3, pk_un c, pk_un (nw x hx')]
      exact ho x hx'
  · intro v hv'
    by_cases c : v = w
    · subst c
      exact Or.inr ⟨R, by omega, ow⟩
    · rw [e3, pk_un c]
      rcases hv v hv' with g | ⟨x, g1, g2⟩
      · exact Or.inl g
      · exact Or.inr ⟨x, by omega, by rw [od_o x g1]; exact g2⟩
  · intro x hx1' hx2'
    by_cases c : x = R
    · subst c
      rw [tw, e5, pk_us, ow, od_o xd hx1, hx2]
      exact ⟨ha3, hx1, hu d w (by omega) hw hb⟩
    · have g := ht x hx1' (by omega)
      rw [to x c, e5, pk_un c, oo x c, od_o (tp x) (by omega)]
      exact g
  · intro d' hd'
    by_cases c : d' = d + 1
    · subst c
      rw [e6, pk_us, sw]
      exact ⟨rfl, R, by omega, ow⟩
    · obtain ⟨g1, x, g2, g3⟩ := hk d' (by omega)
      rw [e6, pk_un c, so d' c]
      exact ⟨g1, x, by omega, by rw [od_o x g2]; exact g3⟩
  · intro d' i hd' hi hb'
    by_cases c : d' = d + 1
    · subst c
      rw [e7, pk_us] at hb'
      rw [sw]
      exact hb'
    · rw [e7, pk_un c] at hb'
      rw [so d' c]
      by_cases c2 : d' = d
      · subst c2
        rw [bd] at hb'
        exact hu d' i (by omega) hi ((kt_tb_off (by omega) (by omega)).mp hb').1
      · rw [bo d' c2] at hb'
        exact hu d' i (by omega) hi hb'
  · intro v hv'
    by_cases c : v = R
    · subst c
      refine Or.inr (Or.inr ⟨rfl, d + 1, rfl, by rw [sw, ow], fun i hi hb' => Or.inl ?_⟩)
      rw [ow] at hb'
      rw [e7, pk_us]
      exact hb'
    · have hvR : v < R := by omega
      rcases hl v hvR with g | g | ⟨g1, d', g2, g3, g4⟩
      · exact Or.inl ⟨by omega, by rw [to (v + 1) (by omega)]; exact g.2⟩
      · refine Or.inr (Or.inl (fun i hi hb' => ?_))
        rw [od_o v hvR] at hb'
        obtain ⟨x, t1, t2⟩ := g i hi hb'
        exact ⟨x, t1, by rw [od_o x (by omega)]; exact t2⟩
      · refine Or.inl ⟨by omega, ?_⟩
        rw [g1, tw]
        have e' : d' = d := by omega
        subst e'
        have t1 := (ho v hvR).2.2
        rw [← g3, ha3] at t1
        exact kt_inj t1 (by omega) (by omega)
theorem kt_visit {post : St1 → Prop} {v : Nat} (hv : v < 17) (hR : R < 17) (H : post (q0, q1, (nI (R + 1)), a1, a2, (upd a3 v (nI R)), (upd a4 R (nI v)), a5, a6, a7, a8, a9, a10, a11, a12, a13, a14, a15, a16, a17, a18, a19)) : wpX_visit post (q0, q1, (nI R), a1, a2, a3, a4, a5, a6, a7, a8, a9, a10, a11, a12, a13, a14, a15, a16, a17, a18, a19) (nI v) := by
  unfold wpX_visit
  (try dsimp only)
  exact ⟨pk_in v 17 hv, nm_r (kt_st v (by omega) rfl) ⟨pk_in R 17 hR, nm_r (kt_st R (by omega) rfl) (nm_r (nI_1 R) H)⟩⟩
theorem kt_nv64 {post : St1 → Prop}
    (H : ∀ R od tp a3 a4 a5 a6 a7, kt_N R od tp a2 a4 a5 → kt_O R od a3 → post (q0, q1, (nI R), a1, a2, a3, a4, a5, a6, a7, a8, a9, a10, a11, a12, a13, a14, a15, a16, a17, a18, a19)) :
    ∀ (m D st R : Nat) (od tp sk : Nat → Nat) (a3 a4 a5 a6 a7 : Nat → Int32), m + st = 290 → kt_V R D st od tp sk a2 a3 a4 a5 a6 a7 → wX_numberVertices_64 post (m + 1) (nI D) (nI st) q0 q1 (nI R) a1 a2 a3 a4 a5 a6 a7 a8 a9 a10 a11 a12 a13 a14 a15 a16 a17 a18 a19 := by
  intro m
  induction m with
  | zero =>
    intro D st R od tp sk a3 a4 a5 a6 a7 hm hV
    have := hV.2.2.1
    omega
  | succ m ih =>
    intro D st R od tp sk a3 a4 a5 a6 a7 hm hV
    have hR := hV.1.2.1
    have hDR := hV.1.2.2.1
    refine pk_le 400 st (fun z => absurd z (by omega)) (fun _ => pk_le D 0 (fun z => ?_) (fun z => ?_))
    · have e : D = 0 := by omega
      subst e
      obtain ⟨h1, h2⟩ := kt_V_end hV
      exact H R od tp a3 a4 a5 a6 a7 h1 h2
    · obtain ⟨d, rfl⟩ : ∃ d, D = d + 1 := ⟨D - 1, by omega⟩
      obtain ⟨e6, xd, hx1, hx2⟩ := hV.2.2.2.2.2.2.1 d (by omega)
      have ho := hV.2.2.2.1 xd hx1
      have hsk : sk d < 17 := by
        rw [← hx2]
        exact ho.2.1
      rw [nI_pred]
      refine ⟨pk_in d 18 (by omega), nm_r (kt_rd d (by omega) e6) ⟨pk_in d 18 (by omega), ?_⟩⟩
      rw [nI_clamp (show d < 2 ^ 31 by omega)]
      refine kt_low (fun w hw hb => ?_) (fun hn => ?_)
      · refine br_t (nI_pos' (by omega)) ⟨pk_in d 18 (by omega), pk_in d 18 (by omega), nm_e ⟨pk_in w 17 (by omega), ?_⟩⟩
        rw [nI_clamp (show w < 2 ^ 31 by omega)]
        refine br_c (fun c => nm_r (nI_1 st) (ih (d + 1) (st + 1) R od tp sk a3 a4 a5 a6 _ (by omega) (kt_V_old hV hw hb rfl (kt_ge0.mp c)))) (fun c => ?_)
        have hn : (a3 w).toInt < 0 := by
          rcases Int.lt_or_le (a3 w).toInt 0 with g | g
          · exact g
          · exact absurd (kt_ge0.mpr g) c
        have hR17 := kt_V_lt hV (show w < 17 by omega) hn
        refine ⟨pk_in (sk d) 17 hsk, pk_in R 17 hR17, nm_r (kt_st R (by omega) (kt_rd (sk d) (by omega) rfl)) (kt_visit (by omega) hR17 ?_)⟩
        refine ⟨pk_in (d + 1) 18 (by omega), nm_r (kt_st (d + 1) (by omega) rfl) ⟨pk_in w 17 (by omega), pk_in (d + 1) 18 (by omega), nm_r (kt_st (d + 1) (by omega) rfl) (nm_r (nI_1 (d + 1)) (nm_r (nI_1 st) ?_))⟩⟩
        obtain ⟨od', tp', sk', hV'⟩ := kt_V_new hV hw hb rfl hn rfl rfl rfl rfl rfl
        exact ih (d + 2) (st + 1) (R + 1) od' tp' sk' _ _ _ _ _ (by omega) hV'
      · exact br_f (by decide) (nm_r (pk_m1 d) (nm_r (nI_1 st) (ih d (st + 1) R od tp sk a3 a4 a5 a6 a7 (by omega) (kt_V_pop hV hn))))
theorem kt_V_0 {b3 b4 b6 b7 : Nat → Int32} (h : ∀ v, v < 17 → a3 v = -1) (e3 : b3 = upd a3 16 (nI 0)) (e4 : b4 = upd a4 0 (nI 16)) (e6 : b6 = upd a6 0 (nI 16)) (e7 : b7 = upd a7 0 (a2 16)) :
    kt_V 1 1 0 (fun _ => 16) (fun _ => 0) (fun _ => 16) a2 b3 b4 a5 b6 b7 := by
  have b16 : b3 16 = nI 0 := by rw [e3, pk_us]
  have bo : ∀ v, v < 17 → v ≠ 16 → b3 v = -1 := fun v h1 h2 => by rw [e3, pk_un h2]; exact h v h1
  refine ⟨⟨by omega, by omega, by omega, rfl⟩, ?_, ?_, ?_, ?_, ?_, ?_, ?_, ?_⟩
  · have t := kt_sm_ch (f := fun _ => 0) (g := fun v => if (b3 v).toInt < 0 then 0 else 1) (k := 16) (n := 17) (by omega) (fun i h1 h2 => by (try dsimp only); rw [bo i h1 h2]; rfl)
    (try dsimp only at t)
    rw [b16, if_neg (kt_nI0 (by omega))] at t
    have t2 : kt_sm (fun _ => 0) 17 = 0 := by decide
    omega
  · have t := kt_pc_le (b7 0)
    show 0 + (kt_pc (b7 0) + 1) + 17 * (17 - 1) + 0 ≤ 289
    omega
  · intro x hx
    have e : x = 0 := by omega
    subst e
    rw [e4, pk_us]
    exact ⟨rfl, by decide, b16⟩
  · intro v hv
    by_cases c : v = 16
    · exact Or.inr ⟨0, by omega, c.symm⟩
    · exact Or.inl (by rw [bo v hv c]; decide)
  · intro x h1 h2
    omega
  · intro d hd
    have e : d = 0 := by omega
    subst e
    rw [e6, pk_us]
    exact ⟨rfl, 0, by omega, rfl⟩
  · intro d i hd hi hb
    have e : d = 0 := by omega
    subst e
    rw [e7, pk_us] at hb
    exact hb
  · intro v hv
    have e : v = 0 := by omega
    subst e
    refine Or.inr (Or.inr ⟨rfl, 0, rfl, rfl, fun i hi hb => Or.inl ?_⟩)
    rw [e7, pk_us]
    exact hb
theorem kt_nv2 {post : St1 → Prop}
    (H : ∀ R od tp a3 a4 a5 a6 a7, kt_N R od tp a2 a4 a5 → kt_O R od a3 → post (q0, q1, (nI R), a1, a2, a3, a4, a5, a6, a7, a8, a9, a10, a11, a12, a13, a14, a15, a16, a17, a18, a19)) :
    ∀ (m i : Nat) (a3 a5 : Nat → Int32), m + i = 17 → (∀ v, v < i → a3 v = -1) → wX_numberVertices_2 post q0 q1 q2 (m + 1) (nI i) a1 a2 a3 a4 a5 a6 a7 a8 a9 a10 a11 a12 a13 a14 a15 a16 a17 a18 a19 := by
  intro m
  induction m with
  | zero =>
    intro i a3 a5 hm hI
    have hi : i = 17 := by omega
    subst hi
    refine pk_le 17 17 (fun _ => kt_visit (v := 16) (R := 0) (by omega) (by omega) (nm_e (nm_e ⟨291, ?_⟩))) (fun z => absurd z (by omega))
    exact kt_nv64 H 290 1 0 1 _ _ _ _ _ _ _ _ (by omega) (kt_V_0 hI rfl rfl rfl rfl)
  | succ m ih =>
    intro i a3 a5 hm hI
    refine pk_le 17 i (fun z => absurd z (by omega)) (fun _ => ⟨pk_in i 17 (by omega), nm_r (kt_st i (by omega) rfl) ⟨pk_in i 17 (by omega), nm_r (kt_st i (by omega) rfl) (nm_r (nI_1 i) (ih (i + 1) _ _ (by omega) (fun v hv => ?_)))⟩⟩)
    by_cases c : v = i
    · rw [c, pk_us]
    · rw [pk_un c]
      exact hI v (by omega)
theorem kt_numb {post : St1 → Prop}
    (H : ∀ R od tp a3 a4 a5 a6 a7, kt_N R od tp a2 a4 a5 → kt_O R od a3 → post (q0, q1, (nI R), a1, a2, a3, a4, a5, a6, a7, a8, a9, a10, a11, a12, a13, a14, a15, a16, a17, a18, a19)) :
    wpX_numberVertices post (q0, q1, q2, a1, a2, a3, a4, a5, a6, a7, a8, a9, a10, a11, a12, a13, a14, a15, a16, a17, a18, a19) := by
  unfold wpX_numberVertices
  (try dsimp only)
  exact ⟨_, kt_nv2 H 17 0 a3 a5 (by omega) (fun v hv => absurd hv (by omega))⟩
end
end
section
section
variable {q0 q1 q2 : Int32} {a1 a2 a3 a4 a5 a6 a7 a8 a9 a10 a11 a12 a13 a14 a15 a16 a17 a18 a19 : Nat → Int32} {P D d c : Nat} {al : Nat → Prop} {nu kp vs F G sk vs' F' G' sk' : Nat → Nat}
/-- the walk of the tree: vs 0 not seen, 1 on the stack, 2 left; F and G its first and last place -/
def kt_K (P D : Nat) (al : Nat → Prop) (kp vs F G sk : Nat → Nat) : Prop :=
  (vs 16 ≠ 0 ∧ F 16 = 0)
  ∧ (∀ v, vs v ≤ 2 ∧ (vs v ≠ 0 → al v ∧ F v ≤ P))
  ∧ (∀ u v, vs u ≠ 0 → vs v ≠ 0 → F u = F v → u = v)
  ∧ (∀ v, vs v = 2 → F v ≤ G v ∧ G v ≤ P)
  ∧ (∀ o, vs o ≠ 0 → o ≠ 16 → vs (kp o) ≠ 0 ∧ F (kp o) < F o ∧ (vs (kp o) = 2 → vs o = 2 ∧ G o ≤ G (kp o)))
  ∧ (∀ o g, vs o ≠ 0 → o ≠ 16 → vs g ≠ 0 → F (kp o) < F g → F g < F o → vs g = 2 ∧ G g < F o)
  ∧ (∀ k g, vs k ≠ 0 → vs g = 2 → F g < F k → G g < F k ∨ (vs k = 2 ∧ G k ≤ G g))
  ∧ (∀ k x, vs k = 2 → al x → x ≠ 16 → kp x = k → vs x ≠ 0)
  ∧ (∀ i, i < D → vs (sk i) = 1)
  ∧ (∀ g, vs g = 1 → ∃ i, i < D ∧ sk i = g)
  ∧ (∀ i j, i < j → j < D → F (sk i) < F (sk j))
theorem kt_K_top (h : kt_K P (d + 1) al kp vs F G sk) {g : Nat} (hg : vs g ≠ 0) (hF : F (sk d) < F g) : vs g = 2 ∧ G g ≤ P := by
  obtain ⟨k0, k1, k2, k3, k4, k5, k6, k7, k8, k9, k10⟩ := h
  have t := (k1 g).1
  have n1 : vs g ≠ 1 := by
    intro z
    obtain ⟨i, hi, e⟩ := k9 g z
    by_cases ei : i = d
    · rw [← e, ei] at hF
      omega
    · have := k10 i d (by omega) (by omega)
      rw [e] at this
      omega
  have t2 : vs g = 2 := by omega
  exact ⟨t2, (k3 g t2).2⟩
theorem kt_K_push (h : kt_K P (d + 1) al kp vs F G sk) (hal : al c) (hc : c ≠ 16) (hk : kp c = sk d) (h0 : vs c = 0)
    (vo : ∀ v, v ≠ c → vs' v = vs v) (vc : vs' c = 1) (fo : ∀ v, v ≠ c → F' v = F v) (fc : F' c = P + 1) (so : ∀ i, i < d + 1 → sk' i = sk i) (sc : sk' (d + 1) = c) :
    kt_K (P + 1) (d + 2) al kp vs' F' G sk' := by
  have top := fun {g : Nat} => kt_K_top h (g := g)
  obtain ⟨k0, k1, k2, k3, k4, k5, k6, k7, k8, k9, k10⟩ := h
  have hd := k8 d (by omega)
  have nz : ∀ v, vs v ≠ 0 → v ≠ c := fun v hv e => hv (by rw [e]; exact h0)
  have n2 : ∀ v, vs' v = 2 → v ≠ c := fun v hv e => by
    rw [e, vc] at hv
    omega
  have nd : sk d ≠ c := nz _ (by omega)
  refine ⟨?_, ?_, ?_, ?_, ?_, ?_, ?_, ?_, ?_, ?_, ?_⟩
  · rw [vo 16 (Ne.symm hc), fo 16 (Ne.symm hc)]
    exact k0
  · intro v
    by_cases e : v = c
    · rw [e, vc, fc]
      exact ⟨by omega, fun _ => ⟨hal, by omega⟩⟩
    · rw [vo v e, fo v e]
      exact ⟨(k1 v).1, fun z => ⟨((k1 v).2 z).1, by have := ((k1 v).2 z).2; omega⟩⟩
  · intro u v hu hv hF
    by_cases eu : u = c
    · by_cases ev : v = c
      · rw [eu, ev]
      · rw [vo v ev] at hv
        rw [eu, fc, fo v ev] at hF
        have := ((k1 v).2 hv).2
        omega
    · rw [vo u eu] at hu
      by_cases ev : v = c
      · rw [ev, fc, fo u eu] at hF
        have := ((k1 u).2 hu).2
        omega
      · rw [vo v ev] at hv
        rw [fo u eu, fo v ev] at hF
        exact k2 u v hu hv hF
  · intro v hv
    have e := n2 v hv
    rw [vo v e] at hv
    rw [fo v e]
    have := k3 v hv
    omega
  · intro o ho ho16
    by_cases eo : o = c
    · subst eo
      rw [hk, vo _ nd, fo _ nd, fc]
      have t := ((k1 (sk d)).2 (by omega)).2
      exact ⟨by omega, by omega, fun z => absurd z (by omega)⟩
    · rw [vo o eo] at ho
      obtain ⟨t1, t2, t3⟩ := k4 o ho ho16
      have nk := nz _ t1
      rw [vo _ nk, fo _ nk, fo o eo, vo o eo]
      exact ⟨t1, t2, t3⟩
  · intro o g ho ho16 hg h1 h2
    by_cases eo : o = c
    · subst eo
      rw [hk, fo _ nd] at h1
      rw [fc] at h2
      by_cases eg : g = o
      · rw [eg, fc] at h2
        omega
      · rw [vo g eg] at hg
        rw [fo g eg] at h1
        obtain ⟨t1, t2⟩ := top hg h1
        rw [vo g eg, fc]
        exact ⟨t1, by omega⟩
    · rw [vo o eo] at ho
      have nk := nz _ (k4 o ho ho16).1
      rw [fo _ nk] at h1
      rw [fo o eo] at h2
      have t := ((k1 o).2 ho).2
      by_cases eg : g = c
      · rw [eg, fc] at h2
        omega
      · rw [vo g eg] at hg
        rw [fo g eg] at h1 h2
        rw [vo g eg, fo o eo]
        exact k5 o g ho ho16 hg h1 h2
  · intro k g hk' hg hF
    have eg := n2 g hg
    rw [vo g eg] at hg
    rw [fo g eg] at hF
    by_cases ek : k = c
    · subst ek
      rw [fc]
      have := k3 g hg
      exact Or.inl (by omega)
    · rw [vo k ek] at hk'
      rw [fo k ek] at hF
      rw [fo k ek, vo k ek]
      exact k6 k g hk' hg hF
  · intro k x hk' hx hx16 hkx
    have ek := n2 k hk'
    rw [vo k ek] at hk'
    by_cases ex : x = c
    · rw [ex, vc]
      omega
    · rw [vo x ex]
      exact k7 k x hk' hx hx16 hkx
  · intro i hi
    by_cases ei : i = d + 1
    · rw [ei, sc, vc]
    · rw [so i (by omega)]
      have t := k8 i (by omega)
      rw [vo _ (nz _ (by omega))]
      exact t
  · intro g hg
    by_cases eg : g = c
    · exact ⟨d + 1, by omega, by rw [sc, eg]⟩
    · rw [vo g eg] at hg
      obtain ⟨i, hi, e⟩ := k9 g hg
      exact ⟨i, by omega, by rw [so i hi]; exact e⟩
  · intro i j hij hj
    have ti := k8 i (by omega)
    rw [so i (by omega), fo _ (nz _ (by omega))]
    by_cases ej : j = d + 1
    · rw [ej, sc, fc]
      have := ((k1 (sk i)).2 (by omega)).2
      omega
    · have tj := k8 j (by omega)
      rw [so j (by omega), fo _ (nz _ (by omega))]
      exact k10 i j hij (by omega)
theorem kt_K_pop (h : kt_K P (d + 1) al kp vs F G sk) (hch : ∀ x, al x → x ≠ 16 → kp x = sk d → vs x ≠ 0)
    (vo : ∀ v, v ≠ sk d → vs' v = vs v) (vc : vs' (sk d) = 2) (go : ∀ v, v ≠ sk d → G' v = G v) (gc : G' (sk d) = P) :
    kt_K P d al kp vs' F G' sk := by
  have top := fun {g : Nat} => kt_K_top h (g := g)
  obtain ⟨k0, k1, k2, k3, k4, k5, k6, k7, k8, k9, k10⟩ := h
  have hd := k8 d (by omega)
  generalize ht : sk d = t at *
  have nz : ∀ v, vs' v ≠ 0 ↔ vs v ≠ 0 := by
    intro v
    by_cases e : v = t
    · rw [e, vc, hd]
      omega
    · rw [vo v e]
  have tP := ((k1 t).2 (by omega)).2
  refine ⟨⟨(nz 16).mpr k0.1, k0.2⟩, ?_, ?_, ?_, ?_, ?_, ?_, ?_, ?_, ?_, ?_⟩
  · intro v
    refine ⟨?_, fun z => (k1 v).2 ((nz v).mp z)⟩
    by_cases e : v = t
    · rw [e, vc]
      omega
    · rw [vo v e]
      exact (k1 v).1
  · intro u v hu hv hF
    exact k2 u v ((nz u).mp hu) ((nz v).mp hv) hF
  · intro v hv
    by_cases e : v = t
    · rw [e, gc]
      omega
    · rw [vo v e] at hv
      rw [go v e]
      exact k3 v hv
  · intro o ho ho16
    obtain ⟨t1, t2, t3⟩ := k4 o ((nz o).mp ho) ho16
    refine ⟨(nz _).mpr t1, t2, fun z => ?_⟩
    by_cases ek : kp o = t
    · have eo : o ≠ t := fun z => by
        rw [ek, z] at t2
        omega
      rw [ek] at t2
      obtain ⟨s1, s2⟩ := top ((nz o).mp ho) t2
      rw [vo o eo, go o eo, ek, gc]
      exact ⟨s1, s2⟩
    · rw [vo _ ek] at z
      obtain ⟨s1, s2⟩ := t3 z
      have eo : o ≠ t := fun z => by
        rw [z] at s1
        omega
      rw [vo o eo, go o eo, go _ ek]
      exact ⟨s1, s2⟩
  · intro o g ho ho16 hg h1 h2
    obtain ⟨s1, s2⟩ := k5 o g ((nz o).mp ho) ho16 ((nz g).mp hg) h1 h2
    have eg : g ≠ t := fun z => by
      rw [z] at s1
      omega
    rw [vo g eg, go g eg]
    exact ⟨s1, s2⟩
  · intro k g hk hg hF
    by_cases eg : g = t
    · rw [eg] at hF
      obtain ⟨s1, s2⟩ := top ((nz k).mp hk) hF
      have ek : k ≠ t := fun z => by
        rw [z] at hF
        omega
      rw [vo k ek, go k ek, eg, gc]
      exact Or.inr ⟨s1, s2⟩
    · rw [vo g eg] at hg
      rw [go g eg]
      rcases k6 k g ((nz k).mp hk) hg hF with s | ⟨s1, s2⟩
      · exact Or.inl s
      · have ek : k ≠ t := fun z => by
          rw [z] at s1
          omega
        rw [vo k ek, go k ek]
        exact Or.inr ⟨s1, s2⟩
  · intro k x hk hx hx16 hkx
    by_cases ek : k = t
    · exact (nz x).mpr (hch x hx hx16 (by rw [hkx, ek]))
    · rw [vo k ek] at hk
      exact (nz x).mpr (k7 k x hk hx hx16 hkx)
  · intro i hi
    have ti := k8 i (by omega)
    have ei : sk i ≠ t := fun z => by
      have := k10 i d (by omega) (by omega)
      rw [z, ht] at this
      omega
    rw [vo _ ei]
    exact ti
  · intro g hg
    have eg : g ≠ t := fun z => by
      rw [z, vc] at hg
      omega
    rw [vo g eg] at hg
    obtain ⟨i, hi, e⟩ := k9 g hg
    have ei : i ≠ d := fun z => by
      rw [z, ht] at e
      exact eg e.symm
    exact ⟨i, by omega, e⟩
  · intro i j hij hj
    exact k10 i j hij (by omega)
/-- a tree by numbers -/
def kt_T (al : Nat → Prop) (nu kp : Nat → Nat) : Prop :=
  (∀ v, al v → v < 17) ∧ al 16 ∧ (∀ v, al v → v ≠ 16 → al (kp v) ∧ nu (kp v) < nu v) ∧ (∀ u v, al u → al v → nu u = nu v → u = v)
/-- the intervals of the finished walk -/
def kt_I (al : Nat → Prop) (kp F G : Nat → Nat) : Prop :=
  (∀ o g, al o → o ≠ 16 → al g → ((F g ≤ F o ∧ F o ≤ G g) ↔ (g = o ∨ (F g ≤ F (kp o) ∧ F (kp o) ≤ G g))))
  ∧ (∀ g, al g → F g ≤ F 16 → g = 16)
theorem kt_K_end (hT : kt_T al nu kp) (h : kt_K P 0 al kp vs F G sk) : (∀ v, al v → vs v = 2) ∧ kt_I al kp F G := by
  obtain ⟨k0, k1, k2, k3, k4, k5, k6, k7, k8, k9, k10⟩ := h
  obtain ⟨T0, T1, T2, T3⟩ := hT
  have cl : ∀ v, vs v ≠ 0 → vs v = 2 := by
    intro v hv
    have t := (k1 v).1
    have n1 : vs v ≠ 1 := fun z => by
      obtain ⟨i, hi, _⟩ := k9 v z
      omega
    omega
  have all : ∀ n v, nu v < n → al v → vs v = 2 := by
    intro n
    induction n with
    | zero => intro v h _; omega
    | succ n ih =>
      intro v hn hv
      by_cases e : v = 16
      · rw [e]
        exact cl 16 k0.1
      · obtain ⟨t1, t2⟩ := T2 v hv e
        have t3 := ih (kp v) (by omega) t1
        exact cl v (k7 (kp v) v t3 hv e rfl)
  have A : ∀ v, al v → vs v = 2 := fun v hv => all (nu v + 1) v (by omega) hv
  refine ⟨A, ?_, ?_⟩
  · intro o g ho ho16 hg
    have vo := A o ho
    have vg := A g hg
    obtain ⟨t1, t2, t3⟩ := k4 o (by omega) ho16
    have vk := cl _ t1
    obtain ⟨_, t4⟩ := t3 vk
    have to := k3 o vo
    have tg := k3 g vg
    constructor
    · intro ⟨s1, s2⟩
      by_cases e : g = o
      · exact Or.inl e
      · refine Or.inr ?_
        have ne : F g ≠ F o := fun z => e (k2 g o (by omega) (by omega) z)
        rcases Nat.lt_or_ge (F (kp o)) (F g) with q | q
        · have := (k5 o g (by omega) ho16 (by omega) q (by omega)).2
          omega
        · exact ⟨q, by omega⟩
    · intro s
      rcases s with s | ⟨s1, s2⟩
      · rw [s]
        omega
      · refine ⟨by omega, ?_⟩
        by_cases e : F g = F (kp o)
        · have eg := k2 g (kp o) (by omega) t1 e
          rw [eg]
          omega
        · rcases k6 (kp o) g t1 vg (by omega) with q | ⟨_, q⟩
          · omega
          · omega
  · intro g hg hF
    have vg := A g hg
    have h16 := k0.2
    exact k2 g 16 (by omega) k0.1 (by omega)
/-- the walk's state -/
def kt_W (P D st : Nat) (al : Nat → Prop) (nu kp vs F G sk : Nat → Nat) (a6 a13 a14 a18 a19 : Nat → Int32) : Prop :=
  (st + D = 2 * P + 1 ∧ D ≤ P + 1)
  ∧ kt_sm (fun v => if vs v = 0 then 0 else 1) 17 = P + 1
  ∧ (∀ i, i < D → a6 i = nI (sk i))
  ∧ (∀ v, vs v ≠ 0 → a18 v = nI (F v))
  ∧ (∀ v, vs v = 2 → a19 v = nI (G v))
  ∧ kt_L 17 nu kp (fun v => al v ∧ vs v = 0) a13 a14
  ∧ kt_K P D al kp vs F G sk
theorem kt_wt22 {post : St1 → Prop} (hT : kt_T al nu kp)
    (H : ∀ F G a6 a13 a18 a19, kt_I al kp F G → (∀ v, al v → a18 v = nI (F v) ∧ a19 v = nI (G v) ∧ F v ≤ 16 ∧ G v ≤ 16) → post (q0, q1, q2, a1, a2, a3, a4, a5, a6, a7, a8, a9, a10, a11, a12, a13, a14, a15, a16, a17, a18, a19)) :
    ∀ (m P D st : Nat) (vs F G sk : Nat → Nat) (a6 a13 a18 a19 : Nat → Int32), m + st = 40 → kt_W P D st al nu kp vs F G sk a6 a13 a14 a18 a19 → wX_walkTree_22 post q0 q1 q2 (m + 1) (nI P) (nI D) (nI st) a1 a2 a3 a4 a5 a6 a7 a8 a9 a10 a11 a12 a13 a14 a15 a16 a17 a18 a19 := by
  intro m
  induction m with
  | zero =>
    intro P D st vs F G sk a6 a13 a18 a19 hm hW
    have h1 := hW.1
    have h2 := hW.2.1
    have h3 := kt_sm_le (f := fun v => if vs v = 0 then 0 else 1) (n := 17) (fun i _ => by (try dsimp only); split <;> omega)
    omega
  | succ m ih =>
    intro P D st vs F G sk a6 a13 a18 a19 hm hW
    obtain ⟨⟨w1, w2⟩, w3, w4, w5, w6, w7, w8⟩ := hW
    have hP := kt_sm_le (f := fun v => if vs v = 0 then 0 else 1) (n := 17) (fun i _ => by (try dsimp only); split <;> omega)
    refine pk_le 40 st (fun z => absurd z (by omega)) (fun _ => pk_le D 0 (fun z => ?_) (fun z => ?_))
    · have e : D = 0 := by omega
      subst e
      obtain ⟨s1, s2⟩ := kt_K_end hT w8
      refine H F G a6 a13 a18 a19 s2 (fun v hv => ?_)
      have t := s1 v hv
      have t2 := w8.2.2.2.1 v t
      exact ⟨w5 v (by omega), w6 v t, by omega, by omega⟩
    · obtain ⟨d, rfl⟩ : ∃ d, D = d + 1 := ⟨D - 1, by omega⟩
      have t1 := w8.2.2.2.2.2.2.2.2.1 d (by omega)
      have tal := ((w8.2.1 (sk d)).2 (by omega)).1
      have t17 := hT.1 _ tal
      rw [nI_pred]
      refine ⟨pk_in d 18 (by omega), nm_r (kt_rd d (by omega) (w4 d (by omega))) ⟨pk_in (sk d) 17 t17, nm_r (kt_rd (sk d) (by omega) rfl) ?_⟩⟩
      rcases w7.2.2.2.1 (sk d) t17 with g | ⟨h, e1, ⟨e2, e3⟩, e4⟩
      · refine br_f (fun z => absurd (kt_ge0.mp z) (by omega)) ⟨pk_in (sk d) 17 t17, nm_r (kt_st (sk d) (by omega) rfl) (nm_r (pk_m1 d) (nm_r (nI_1 st) ?_))⟩
        have hch : ∀ x, al x → x ≠ 16 → kp x = sk d → vs x ≠ 0 := fun x hx _ hk h0 => kt_L_neg w7 g x ⟨hx, h0⟩ hk
        obtain ⟨vs', vo, vc⟩ : ∃ vs' : Nat → Nat, (∀ v, v ≠ sk d → vs' v = vs v) ∧ vs' (sk d) = 2 := ⟨fun x => if x = sk d then 2 else vs x, fun x hx => if_neg hx, if_pos rfl⟩
        obtain ⟨G', go, gc⟩ : ∃ G' : Nat → Nat, (∀ v, v ≠ sk d → G' v = G v) ∧ G' (sk d) = P := ⟨fun x => if x = sk d then P else G x, fun x hx => if_neg hx, if_pos rfl⟩
        have z0 : ∀ v, vs' v = 0 ↔ vs v = 0 := by
          intro v
          by_cases e : v = sk d
          · rw [e, vc, t1]
            omega
          · rw [vo v e]
        refine ih P d (st + 1) vs' F G' sk a6 a13 a18 _ (by omega) ⟨⟨by omega, by omega⟩, ?_, fun i hi => w4 i (by omega), fun v hv => w5 v (fun z => hv ((z0 v).mpr z)), fun v hv => ?_, kt_L_iff w7 (fun v => by rw [z0 v]), kt_K_pop w8 hch vo vc go gc⟩
        · rw [← w3]
          refine kt_sm_eq (fun i _ => ?_)
          (try dsimp only)
          by_cases e : vs i = 0
          · rw [if_pos e, if_pos ((z0 i).mpr e)]
          · rw [if_neg e, if_neg (fun z => e ((z0 i).mp z))]
        · by_cases e : v = sk d
          · rw [e, pk_us, gc]
          · rw [pk_un e, go v e]
            rw [vo v e] at hv
            exact w6 v hv
      · have h17 := hT.1 h e2
        have h16 : h ≠ 16 := fun z => by
          rw [z] at e3
          exact w8.1.1 e3
        rw [e1]
        have hP17 : P + 1 < 17 := by
          have t := kt_sm_lt (f := fun v => if vs v = 0 then 0 else 1) (k := h) (n := 17) h17 (if_pos e3) (fun i _ => by (try dsimp only); split <;> omega)
          omega
        refine br_t (nI_pos' (by omega)) ⟨pk_in h 17 h17, pk_in (sk d) 17 t17, nm_r (kt_st (sk d) (by omega) (kt_rd h (by omega) rfl)) (nm_r (nI_1 P) ⟨pk_in h 17 h17, nm_r (kt_st h (by omega) rfl) ⟨pk_in (d + 1) 18 (by omega), nm_r (kt_st (d + 1) (by omega) rfl) (nm_r (nI_1 (d + 1)) (nm_r (nI_1 st) ?_))⟩⟩)⟩
        obtain ⟨vs', vo, vc⟩ : ∃ vs' : Nat → Nat, (∀ v, v ≠ h → vs' v = vs v) ∧ vs' h = 1 := ⟨fun x => if x = h then 1 else vs x, fun x hx => if_neg hx, if_pos rfl⟩
        obtain ⟨F', fo, fc⟩ : ∃ F' : Nat → Nat, (∀ v, v ≠ h → F' v = F v) ∧ F' h = P + 1 := ⟨fun x => if x = h then P + 1 else F x, fun x hx => if_neg hx, if_pos rfl⟩
        obtain ⟨sk', so, sc⟩ : ∃ sk' : Nat → Nat, (∀ i, i < d + 1 → sk' i = sk i) ∧ sk' (d + 1) = h := ⟨fun x => if x = d + 1 then h else sk x, fun x hx => if_neg (by omega), if_pos rfl⟩
        refine ih (P + 1) (d + 2) (st + 1) vs' F' G sk' _ _ _ a19 (by omega) ⟨⟨by omega, by omega⟩, ?_, fun i hi => ?_, fun v hv => ?_, fun v hv => ?_, ?_, kt_K_push w8 e2 h16 e4 e3 vo vc fo fc so sc⟩
        · have t := kt_sm_ch (f := fun v => if vs v = 0 then 0 else 1) (g := fun v => if vs' v = 0 then 0 else 1) (k := h) (n := 17) h17 (fun i _ hi => by (try dsimp only); rw [vo i hi])
          (try dsimp only at t)
          rw [if_pos e3, if_neg (show ¬ vs' h = 0 by omega)] at t
          omega
        · by_cases e : i = d + 1
          · rw [e, pk_us, sc]
          · rw [pk_un e, so i (by omega)]
            exact w4 i (by omega)
        · by_cases e : v = h
          · rw [e, pk_us, fc]
          · rw [pk_un e, fo v e]
            rw [vo v e] at hv
            exact w5 v hv
        · have e : v ≠ h := fun z => by
            rw [z, vc] at hv
            omega
          rw [vo v e] at hv
          exact w6 v hv
        · refine kt_L_pop w7 t17 e1 h17 (fun x y hx hy z => hT.2.2.2 x y hx.1 hy.1 z) (fun x => ?_)
          by_cases e : x = h
          · rw [e, vc]
            exact ⟨fun z => absurd z.2 (by omega), fun z => absurd rfl z.2⟩
          · rw [vo x e]
            exact ⟨fun z => ⟨z, e⟩, fun z => z.1⟩
theorem kt_walk {post : St1 → Prop} (hT : kt_T al nu kp) (hL : kt_L 17 nu kp (fun v => al v ∧ v ≠ 16) a13 a14)
    (H : ∀ F G a6 a13 a18 a19, kt_I al kp F G → (∀ v, al v → a18 v = nI (F v) ∧ a19 v = nI (G v) ∧ F v ≤ 16 ∧ G v ≤ 16) → post (q0, q1, q2, a1, a2, a3, a4, a5, a6, a7, a8, a9, a10, a11, a12, a13, a14, a15, a16, a17, a18, a19)) :
    wpX_walkTree post (q0, q1, q2, a1, a2, a3, a4, a5, a6, a7, a8, a9, a10, a11, a12, a13, a14, a15, a16, a17, a18, a19) := by
  unfold wpX_walkTree
  (try dsimp only)
  refine nm_e (nm_e ⟨41, kt_wt22 hT H 40 0 1 0 (fun v => if v = 16 then 1 else 0) (fun _ => 0) (fun _ => 0) (fun _ => 16) _ _ _ _ (by omega) ⟨⟨by omega, by omega⟩, by decide, fun i hi => ?_, fun v hv => ?_, fun v hv => ?_, ?_, ?_⟩⟩)
  · have e : i = 0 := by omega
    subst e
    exact pk_us
  · by_cases e : v = 16
    · subst e
      exact pk_us
    · exact absurd (if_neg e) hv
  · (try dsimp only at hv)
    split at hv <;> omega
  · refine kt_L_iff hL (fun v => ?_)
    (try dsimp only)
    by_cases e : v = 16
    · rw [if_pos e]
      exact ⟨fun z => absurd z.2 (by omega), fun z => absurd e z.2⟩
    · rw [if_neg e]
      exact ⟨fun z => ⟨z.1, e⟩, fun z => ⟨z.1, rfl⟩⟩
  · have v1 : ∀ v, (if v = 16 then 1 else 0) ≠ 0 → v = 16 := fun v hv => by
      split at hv <;> omega
    have v2 : ∀ v, (if v = 16 then 1 else 0) ≠ 2 := fun v hv => by
      split at hv <;> omega
    refine ⟨⟨by decide, rfl⟩, fun v => ⟨by (try dsimp only); split <;> omega, fun hv => ⟨by rw [v1 v hv]; exact hT.2.1, Nat.le_refl 0⟩⟩, fun u v hu hv _ => by rw [v1 u hu, v1 v hv], fun v hv => absurd hv (v2 v), fun o ho ho16 => absurd (v1 o ho) ho16, fun o g ho ho16 => absurd (v1 o ho) ho16, fun k g _ hg => absurd hg (v2 g), fun k x hk => absurd hk (v2 k), fun i hi => rfl, fun g hg => ⟨0, by omega, (v1 g (fun z => absurd (hg.symm.trans z) (by decide))).symm⟩, fun i j h1 h2 => by omega⟩
end
end
section
section
variable {q0 q1 q2 : Int32} {a1 a2 a3 a4 a5 a6 a7 a8 a9 a10 a11 a12 a13 a14 a15 a16 a17 a18 a19 : Nat → Int32} {R w M : Nat} {od tp dm sz nu kp hl : Nat → Nat}
/-- numbering and keepers by number -/
def kt_Y (R : Nat) (od dm : Nat → Nat) (a3 a4 a9 : Nat → Int32) : Prop :=
  (1 ≤ R ∧ R ≤ 17 ∧ od 0 = 16)
  ∧ (∀ x, x < R → a4 x = nI (od x) ∧ od x < 17 ∧ a3 (od x) = nI x)
  ∧ (∀ v, v < 17 → (a3 v).toInt < 0 ∨ ∃ x, x < R ∧ od x = v)
  ∧ (∀ x y, x < R → y < R → od x = od y → x = y)
  ∧ (∀ x, 1 ≤ x → x < R → od x < 16 ∧ a9 x = nI (dm x) ∧ dm x < x)
theorem kt_Y_of (hN : kt_N R od tp a2 a4 a5) (hO : kt_O R od a3) (h9 : ∀ x, 1 ≤ x → x < R → ∃ d, a9 x = nI d ∧ d < x) : ∃ dm, kt_Y R od dm a3 a4 a9 := by
  obtain ⟨hR1, hR, ho, ht, _⟩ := hN
  obtain ⟨o1, o2, o3⟩ := hO
  refine ⟨fun x => (a9 x).toNatClampNeg, ⟨hR1, hR, o3⟩, fun x hx => ⟨(ho x hx).1, (ho x hx).2, o1 x hx⟩, o2, fun x y hx hy e => ?_, fun x h1 h2 => ⟨(ht x h1 h2).1, ?_⟩⟩
  · have e1 := o1 x hx
    rw [e, o1 y hy] at e1
    exact (kt_inj e1 (by omega) (by omega)).symm
  · obtain ⟨d, e, l⟩ := h9 x h1 h2
    (try dsimp only)
    rw [e, nI_clamp (by omega)]
    exact ⟨rfl, l⟩
def kt_X (w : Nat) (od dm : Nat → Nat) (a15 a16 : Nat → Int32) : Prop :=
  a16 16 = 0 ∧ ∀ x, 1 ≤ x → x < w → a15 (od x) = nI (od (dm x)) ∧ a16 (od x) = a16 (od (dm x)) + 1
theorem kt_lo65 {post : St1 → Prop} (hY : kt_Y R od dm a3 a4 a9)
    (H : ∀ a15 a16, kt_X R od dm a15 a16 → ∃ n, wX_layOutTree_126 post q0 q1 (nI R) n (nI R - 1) a1 a2 a3 a4 a5 a6 a7 a8 a9 a10 a11 a12 a13 a14 a15 a16 a17 a18 a19) :
    ∀ (m w : Nat) (a15 a16 : Nat → Int32), m + w = R → 1 ≤ w → kt_X w od dm a15 a16 → wX_layOutTree_65 post q0 q1 (nI R) (m + 1) (nI w) a1 a2 a3 a4 a5 a6 a7 a8 a9 a10 a11 a12 a13 a14 a15 a16 a17 a18 a19 := by
  obtain ⟨⟨hR1, hR, h0⟩, ho, hv, inj, hd⟩ := hY
  intro m
  induction m with
  | zero =>
    intro w a15 a16 hm hw hX
    have e : w = R := by omega
    rw [e] at hX
    rw [e]
    exact pk_le R R (fun _ => nm_e (H a15 a16 hX)) (fun z => absurd z (by omega))
  | succ m ih =>
    intro w a15 a16 hm hw hX
    obtain ⟨o1, o2, o3⟩ := ho w (by omega)
    obtain ⟨d1, d2, d3⟩ := hd w hw (by omega)
    obtain ⟨p1, p2, p3⟩ := ho (dm w) (by omega)
    have ne : ∀ y, y < w → od y ≠ od w := fun y hy z => by
      have := inj y w (by omega) (by omega) z
      omega
    refine pk_le R w (fun z => absurd z (by omega)) (fun _ => ⟨pk_in w 17 (by omega), nm_r (kt_rd w (by omega) o1) ⟨pk_in w 17 (by omega), by rw [kt_rd w (by omega) d2]; exact pk_in (dm w) 17 (by omega), nm_r (e' := nI (od (dm w))) (by rw [kt_rd w (by omega) d2, nI_clamp (by omega), p1]) ⟨pk_in (od w) 17 o2, nm_r (kt_st (od w) (by omega) rfl) ⟨pk_in (od (dm w)) 17 p2, pk_in (od w) 17 o2, nm_r (kt_st (od w) (by omega) (by rw [nI_clamp (by omega)])) (nm_r (nI_1 w) (ih (w + 1) _ _ (by omega) (by omega) ⟨?_, fun x h1 h2 => ?_⟩))⟩⟩⟩⟩)
    · rw [pk_un (by omega)]
      exact hX.1
    · by_cases e : x = w
      · rw [e, pk_us, pk_us, pk_un (ne (dm w) d3)]
        exact ⟨rfl, rfl⟩
      · have t := (hd x h1 (by omega)).2.2
        rw [pk_un (ne x (by omega)), pk_un (ne x (by omega)), pk_un (ne (dm x) (by omega))]
        exact hX.2 x h1 (by omega)
/-- held sizes and lists of children when the numbers above w are done -/
def kt_U (w R : Nat) (od dm sz nu kp hl : Nat → Nat) (M : Nat) (a3 a13 a14 a15 a17 : Nat → Int32) : Prop :=
  kt_L 17 nu kp (fun v => ∃ x, w < x ∧ x < R ∧ od x = v) a13 a14
  ∧ (∀ v, v < 17 → a17 v = nI (hl v) ∧ hl v ≤ M)
  ∧ M * 2 ^ w ≤ 255 * 2 ^ 16
  ∧ (∀ x, x < R → sz (od x) ≤ hl (od x))
  ∧ (∀ x, w < x → x < R → sz (od (dm x)) + hl (od x) ≤ hl (od (dm x)))
  ∧ hl 16 = kt_sm (fun o => if (w : Int) < (a3 o).toInt ∧ a15 o = 16 then hl o else 0) 16
theorem kt_U_st {hl' : Nat → Nat} {b17 : Nat → Int32} (hY : kt_Y R od dm a3 a4 a9) (nuE : ∀ x, x < R → nu (od x) = x) (kpE : ∀ x, 1 ≤ x → x < R → kp (od x) = od (dm x) ∧ a15 (od x) = nI (od (dm x))) (hw : w + 1 < R)
    (hU : kt_U (w + 1) R od dm sz nu kp hl M a3 a13 a14 a15 a17) (ho : ∀ v, v ≠ od (dm (w + 1)) → hl' v = hl v) (hc : hl' (od (dm (w + 1))) = hl (od (dm (w + 1))) + hl (od (w + 1)))
    (e17 : b17 = upd a17 (od (dm (w + 1))) (nI (hl (od (dm (w + 1))) + hl (od (w + 1))))) :
    kt_U w R od dm sz nu kp hl' (M + M) a3 (upd a13 (od (dm (w + 1))) (nI (od (w + 1)))) (upd a14 (od (w + 1)) (a13 (od (dm (w + 1))))) a15 b17 := by
  obtain ⟨⟨hR1, hR, h0⟩, hod, hv, inj, hd⟩ := hY
  obtain ⟨u1, u2, u3, u4, u5, u6⟩ := hU
  obtain ⟨d1, d2, d3⟩ := hd (w + 1) (by omega) hw
  have k1 := kpE (w + 1) (by omega) hw
  have ov := hod (w + 1) hw
  have ok := hod (dm (w + 1)) (by omega)
  have nx : ∀ x, w < x → x < R → od x ≠ od (dm (w + 1)) := fun x h1 h2 z => by
    have := inj x (dm (w + 1)) h2 (by omega) z
    omega
  have mono : ∀ v, hl v ≤ hl' v := fun v => by
    by_cases e : v = od (dm (w + 1))
    · rw [e, hc]
      omega
    · rw [ho v e]
      exact Nat.le_refl _
  refine ⟨?_, ?_, ?_, ?_, ?_, ?_⟩
  · refine kt_L_ins u1 (by omega) (fun v hv' => ?_) (fun v _ => rfl) k1.1 (by omega) (fun v => ⟨fun hv' => ?_, fun hv' => ?_⟩)
    · obtain ⟨x, x1, x2, x3⟩ := hv'
      rw [← x3, nuE _ hw, nuE x x2]
      exact x1
    · obtain ⟨x, x1, x2, x3⟩ := hv'
      by_cases e : x = w + 1
      · rw [e] at x3
        exact Or.inr x3.symm
      · exact Or.inl ⟨x, by omega, x2, x3⟩
    · rcases hv' with ⟨x, x1, x2, x3⟩ | g
      · exact ⟨x, by omega, x2, x3⟩
      · exact ⟨w + 1, by omega, hw, g.symm⟩
  · intro v hv'
    by_cases e : v = od (dm (w + 1))
    · rw [e, e17, pk_us, hc]
      have t1 := (u2 (od (dm (w + 1))) (by omega)).2
      have t2 := (u2 (od (w + 1)) (by omega)).2
      exact ⟨rfl, by omega⟩
    · rw [e17, pk_un e, ho v e]
      have t := u2 v hv'
      exact ⟨t.1, by omega⟩
  · have t : (M + M) * 2 ^ w = M * 2 ^ (w + 1) := by
      rw [Nat.pow_succ, ← Nat.two_mul, Nat.mul_comm 2 M, Nat.mul_assoc, Nat.mul_comm 2]
    rw [t]
    exact u3
  · intro x hx
    exact Nat.le_trans (u4 x hx) (mono _)
  · intro x h1 h2
    rw [ho (od x) (nx x h1 h2)]
    by_cases e : x = w + 1
    · rw [e, hc]
      have := u4 (dm (w + 1)) (by omega)
      omega
    · have t1 := u5 x (by omega) h2
      have t2 := mono (od (dm x))
      omega
  · have h16 : od (w + 1) ≠ od (dm (w + 1)) := nx (w + 1) (by omega) hw
    have a3v : (a3 (od (w + 1))).toInt = ((w + 1 : Nat) : Int) := by rw [ov.2.2]; exact nI_toInt (by omega)
    have a3k : (a3 (od (dm (w + 1)))).toInt = ((dm (w + 1) : Nat) : Int) := by rw [ok.2.2]; exact nI_toInt (by omega)
    have t := kt_sm_ch (f := fun o => if ((w + 1 : Nat) : Int) < (a3 o).toInt ∧ a15 o = 16 then hl o else 0) (g := fun o => if (w : Int) < (a3 o).toInt ∧ a15 o = 16 then hl' o else 0) (k := od (w + 1)) (n := 16) d1 (fun o h1 h2 => by
      (try dsimp only)
      by_cases e : o = od (dm (w + 1))
      · have n1 : ¬ ((w : Int) < (a3 o).toInt ∧ a15 o = 16) := fun z => by
          rw [e, a3k] at z
          omega
        have n2 : ¬ (((w + 1 : Nat) : Int) < (a3 o).toInt ∧ a15 o = 16) := fun z => by
          rw [e, a3k] at z
          omega
        rw [if_neg n1, if_neg n2]
      · rw [ho o e]
        have c : ((w : Int) < (a3 o).toInt ∧ a15 o = 16) ↔ (((w + 1 : Nat) : Int) < (a3 o).toInt ∧ a15 o = 16) := by
          have c2 : (a3 o).toInt ≠ ((w + 1 : Nat) : Int) := fun z => by
            rcases hv o (by omega) with g | ⟨x, g1, g2⟩
            · omega
            · have g3 := (hod x g1).2.2
              rw [g2] at g3
              rw [g3, nI_toInt (by omega)] at z
              have g4 : x = w + 1 := by omega
              rw [g4] at g2
              exact h2 g2.symm
          exact ⟨fun z => ⟨by omega, z.2⟩, fun z => ⟨by omega, z.2⟩⟩
        by_cases c3 : ((w : Int) < (a3 o).toInt ∧ a15 o = 16)
        · rw [if_pos c3, if_pos (c.mp c3)]
        · rw [if_neg c3, if_neg (fun z => c3 (c.mpr z))])
    (try dsimp only at t)
    have n3 : ¬ (((w + 1 : Nat) : Int) < (a3 (od (w + 1))).toInt ∧ a15 (od (w + 1)) = 16) := fun z => by
      rw [a3v] at z
      omega
    rw [if_neg n3, ← u6, ho _ h16] at t
    by_cases e : od (dm (w + 1)) = 16
    · have p : ((w : Int) < (a3 (od (w + 1))).toInt ∧ a15 (od (w + 1)) = 16) := ⟨by rw [a3v]; omega, by rw [k1.2, e]; rfl⟩
      rw [if_pos p] at t
      rw [e] at hc
      omega
    · have p : ¬ ((w : Int) < (a3 (od (w + 1))).toInt ∧ a15 (od (w + 1)) = 16) := fun z => by
        have z2 := z.2
        rw [k1.2] at z2
        exact e (kt_inj (b := 16) z2 (by omega) (by omega))
      rw [if_neg p] at t
      have := ho 16 (Ne.symm e)
      omega
theorem kt_lo126 {post : St1 → Prop} {al : Nat → Prop} (hY : kt_Y R od dm a3 a4 a9) (nuE : ∀ x, x < R → nu (od x) = x) (kpE : ∀ x, 1 ≤ x → x < R → kp (od x) = od (dm x) ∧ a15 (od x) = nI (od (dm x))) (hT : kt_T al nu kp) (hal : ∀ v, (al v ∧ v ≠ 16) ↔ ∃ x, 0 < x ∧ x < R ∧ od x = v)
    (H : ∀ F G hl M c13 c14 a6 a13 a14 a17 a18 a19, kt_I al kp F G → (∀ v, al v → a18 v = nI (F v) ∧ a19 v = nI (G v) ∧ F v ≤ 16 ∧ G v ≤ 16) → kt_U 0 R od dm sz nu kp hl M a3 c13 c14 a15 a17 → post (q0, q1, (nI R), a1, a2, a3, a4, a5, a6, a7, a8, a9, a10, a11, a12, a13, a14, a15, a16, a17, a18, a19)) :
    ∀ (w M : Nat) (hl : Nat → Nat) (a13 a14 a17 : Nat → Int32), w < R → kt_U w R od dm sz nu kp hl M a3 a13 a14 a15 a17 → wX_layOutTree_126 post q0 q1 (nI R) (w + 1) (nI w) a1 a2 a3 a4 a5 a6 a7 a8 a9 a10 a11 a12 a13 a14 a15 a16 a17 a18 a19 := by
  intro w
  induction w with
  | zero =>
    intro M hl a13 a14 a17 hw hU
    refine pk_le 0 0 (fun _ => kt_walk hT (kt_L_iff hU.1 hal) (fun F G b6 b13 b18 b19 hI hF => ?_)) (fun z => absurd z (by omega))
    exact H F G hl M a13 a14 b6 b13 a14 a17 b18 b19 hI hF hU
  | succ w ih =>
    intro M hl a13 a14 a17 hw hU
    obtain ⟨⟨hR1, hR, h0⟩, hod, hv, inj, hd⟩ := id hY
    obtain ⟨o1, o2, o3⟩ := hod (w + 1) hw
    obtain ⟨d1, d2, d3⟩ := hd (w + 1) (by omega) hw
    obtain ⟨p1, p2, p3⟩ := hod (dm (w + 1)) (by omega)
    have k1 := (kpE (w + 1) (by omega) hw).2
    have e1 := (hU.2.1 (od (dm (w + 1))) p2).1
    have e2 := (hU.2.1 (od (w + 1)) o2).1
    have e17 : upd a17 (nI (od (dm (w + 1)))).toNatClampNeg (a17 (nI (od (dm (w + 1)))).toNatClampNeg + a17 (nI (od (w + 1))).toNatClampNeg) = upd a17 (od (dm (w + 1))) (nI (hl (od (dm (w + 1))) + hl (od (w + 1)))) := by
      rw [nI_clamp (show od (dm (w + 1)) < 2 ^ 31 by omega), nI_clamp (show od (w + 1) < 2 ^ 31 by omega), e1, e2, nI_add]
    obtain ⟨hl', ho, hc⟩ : ∃ hl' : Nat → Nat, (∀ v, v ≠ od (dm (w + 1)) → hl' v = hl v) ∧ hl' (od (dm (w + 1))) = hl (od (dm (w + 1))) + hl (od (w + 1)) := ⟨fun x => if x = od (dm (w + 1)) then hl (od (dm (w + 1))) + hl (od (w + 1)) else hl x, fun x hx => if_neg hx, if_pos rfl⟩
    refine pk_le (w + 1) 0 (fun z => absurd z (by omega)) (fun _ => ⟨pk_in (w + 1) 17 (by omega), nm_r (kt_rd (w + 1) (by omega) o1) ⟨pk_in (od (w + 1)) 17 o2, nm_r (kt_rd (od (w + 1)) (by omega) k1) ⟨pk_in (od (dm (w + 1))) 17 p2, pk_in (od (w + 1)) 17 o2, pk_in (od (dm (w + 1))) 17 p2, nm_r e17 ⟨pk_in (od (dm (w + 1))) 17 p2, pk_in (od (w + 1)) 17 o2, nm_r (kt_st (od (w + 1)) (by omega) (kt_rd (od (dm (w + 1))) (by omega) rfl)) ⟨pk_in (od (dm (w + 1))) 17 p2, nm_r (kt_st (od (dm (w + 1))) (by omega) rfl) (nm_r (pk_m1 w) ?_)⟩⟩⟩⟩⟩)
    exact ih (M + M) hl' _ _ _ (by omega) (kt_U_st hY nuE kpE hw hU ho hc rfl)
theorem kt_lo19 {post : St1 → Prop}
    (H : ∀ a13 a17, (∀ v, v < 17 → a17 v = (if (a3 v).toInt < 0 then 0 else a1 v) ∧ (a13 v).toInt < 0) → ∃ n, wX_layOutTree_65 post q0 q1 q2 n 1 a1 a2 a3 a4 a5 a6 a7 a8 a9 a10 a11 a12 a13 a14 a15 a16 a17 a18 a19) :
    ∀ (m i : Nat) (a13 a17 : Nat → Int32), m + i = 17 → (∀ v, v < i → a17 v = (if (a3 v).toInt < 0 then 0 else a1 v) ∧ (a13 v).toInt < 0) → wX_layOutTree_19 post q0 q1 q2 (m + 1) (nI i) a1 a2 a3 a4 a5 a6 a7 a8 a9 a10 a11 a12 a13 a14 a15 a16 a17 a18 a19 := by
  intro m
  induction m with
  | zero =>
    intro i a13 a17 hm hI
    have e : i = 17 := by omega
    subst e
    exact pk_le 17 17 (fun _ => H a13 a17 hI) (fun z => absurd z (by omega))
  | succ m ih =>
    intro i a13 a17 hm hI
    have nx : ∀ x : Int32, x = (if (a3 i).toInt < 0 then 0 else a1 i) → ∀ v, v < i + 1 → upd a17 i x v = (if (a3 v).toInt < 0 then 0 else a1 v) ∧ (upd a13 i (-1) v).toInt < 0 := by
      intro x hx v hv
      by_cases e : v = i
      · rw [e, pk_us, pk_us]
        exact ⟨hx, by decide⟩
      · rw [pk_un e, pk_un e]
        exact hI v (by omega)
    refine pk_le 17 i (fun z => absurd z (by omega)) (fun _ => ⟨pk_in i 17 (by omega), br_c (fun c => ?_) (fun c => ⟨pk_in i 17 (by omega), ?_⟩)⟩)
    · rw [nI_clamp (show i < 2 ^ 31 by omega)] at c
      unfold wX_layOutTree_49
      exact ⟨pk_in i 17 (by omega), nm_r (kt_st i (by omega) rfl) ⟨pk_in i 17 (by omega), nm_r (kt_st i (by omega) rfl) (nm_r (nI_1 i) (ih (i + 1) _ _ (by omega) (nx 0 (by rw [if_pos (kt_lt0.mp c)]))))⟩⟩
    · rw [nI_clamp (show i < 2 ^ 31 by omega)] at c
      unfold wX_layOutTree_49
      exact ⟨pk_in i 17 (by omega), nm_r (kt_st i (by omega) (kt_rd i (by omega) rfl)) ⟨pk_in i 17 (by omega), nm_r (kt_st i (by omega) rfl) (nm_r (nI_1 i) (ih (i + 1) _ _ (by omega) (nx (a1 i) (by rw [if_neg (fun z => c (kt_lt0.mpr z))]))))⟩⟩
/-- the finished picture -/
def kt_G (sz : Nat → Nat) (a3 a15 a16 a17 a18 a19 : Nat → Int32) : Prop := ∃ kp hl F G : Nat → Nat,
  (∀ o, o < 16 → 0 ≤ (a3 o).toInt → kp o < 17 ∧ a15 o = nI (kp o) ∧ 0 ≤ (a3 (kp o)).toInt ∧ a16 o = a16 (kp o) + 1 ∧ sz (kp o) + hl o ≤ hl (kp o))
  ∧ a16 16 = 0
  ∧ (∀ v, v < 17 → a17 v = nI (hl v) ∧ hl v < 2 ^ 30)
  ∧ (∀ v, v < 17 → 0 ≤ (a3 v).toInt → a18 v = nI (F v) ∧ a19 v = nI (G v) ∧ F v ≤ 16 ∧ G v ≤ 16)
  ∧ kt_I (fun v => v < 17 ∧ 0 ≤ (a3 v).toInt) kp F G
  ∧ hl 16 = kt_sm (fun o => if 0 ≤ (a3 o).toInt ∧ a15 o = 16 then hl o else 0) 16
theorem kt_lay {post : St1 → Prop} (hY : kt_Y R od dm a3 a4 a9) (hz : ∀ v, v < 17 → a1 v = nI (sz v) ∧ sz v ≤ 255) (hz16 : sz 16 = 0)
    (H : ∀ a6 a13 a14 a15 a16 a17 a18 a19, kt_G sz a3 a15 a16 a17 a18 a19 → post (q0, q1, (nI R), a1, a2, a3, a4, a5, a6, a7, a8, a9, a10, a11, a12, a13, a14, a15, a16, a17, a18, a19)) :
    wpX_layOutTree post (q0, q1, (nI R), a1, a2, a3, a4, a5, a6, a7, a8, a9, a10, a11, a12, a13, a14, a15, a16, a17, a18, a19) := by
  obtain ⟨⟨hR1, hR, h0⟩, hod, hv, inj, hd⟩ := id hY
  have alx : ∀ v, (v < 17 ∧ 0 ≤ (a3 v).toInt) ↔ ∃ x, x < R ∧ od x = v := by
    intro v
    constructor
    · intro ⟨h1, h2⟩
      rcases hv v h1 with g | g
      · omega
      · exact g
    · intro ⟨x, h1, h2⟩
      have t := hod x h1
      rw [← h2, t.2.2, nI_toInt (by omega)]
      exact ⟨t.2.1, by omega⟩
  have nuE : ∀ x, x < R → (fun v => (a3 v).toNatClampNeg) (od x) = x := fun x hx => by
    (try dsimp only)
    rw [(hod x hx).2.2]
    exact nI_clamp (by omega)
  unfold wpX_layOutTree
  (try dsimp only)
  refine nm_e (nm_e ⟨_, kt_lo19 (fun b13 b17 h19 => ⟨_, kt_lo65 hY (fun b15 b16 hX => ?_) (R - 1) 1 _ _ (by omega) (by omega) ⟨pk_us, fun x h1 h2 => absurd h2 (by omega)⟩⟩) 17 0 a13 a17 (by omega) (fun v hv => absurd hv (by omega))⟩)
  have kpE : ∀ x, 1 ≤ x → x < R → (fun v => (b15 v).toNatClampNeg) (od x) = od (dm x) ∧ b15 (od x) = nI (od (dm x)) := fun x h1 h2 => by
    have t := (hX.2 x h1 h2).1
    have t2 := (hd x h1 h2).2.2
    have t3 := (hod (dm x) (by omega)).2.1
    (try dsimp only)
    rw [t]
    exact ⟨nI_clamp (by omega), rfl⟩
  generalize (fun v => (a3 v).toNatClampNeg) = nu at nuE
  generalize (fun v => (b15 v).toNatClampNeg) = kp at kpE
  have o16 : ∀ x, x < R → od x ≠ 16 → 1 ≤ x := fun x hx e => by
    rcases Nat.eq_zero_or_pos x with g | g
    · rw [g] at e
      exact absurd h0 e
    · exact g
  have hT : kt_T (fun v => v < 17 ∧ 0 ≤ (a3 v).toInt) nu kp := by
    refine ⟨fun v h => h.1, (alx 16).mpr ⟨0, by omega, h0⟩, fun v h1 h2 => ?_, fun u v h1 h2 h3 => ?_⟩
    · obtain ⟨x, x1, x2⟩ := (alx v).mp h1
      have x3 := o16 x x1 (by rw [x2]; exact h2)
      have t := (hd x x3 x1).2.2
      rw [← x2, (kpE x x3 x1).1, nuE x x1, nuE (dm x) (by omega)]
      exact ⟨(alx _).mpr ⟨dm x, by omega, rfl⟩, t⟩
    · obtain ⟨x, x1, x2⟩ := (alx u).mp h1
      obtain ⟨y, y1, y2⟩ := (alx v).mp h2
      rw [← x2, ← y2, nuE x x1, nuE y y1] at h3
      rw [← x2, ← y2, h3]
  have hal : ∀ v, ((fun v => v < 17 ∧ 0 ≤ (a3 v).toInt) v ∧ v ≠ 16) ↔ ∃ x, 0 < x ∧ x < R ∧ od x = v := by
    intro v
    constructor
    · intro ⟨h1, h2⟩
      obtain ⟨x, x1, x2⟩ := (alx v).mp h1
      exact ⟨x, o16 x x1 (by rw [x2]; exact h2), x1, x2⟩
    · intro ⟨x, x1, x2, x3⟩
      refine ⟨(alx v).mpr ⟨x, x2, x3⟩, fun z => ?_⟩
      have t := (hd x x1 x2).1
      omega
  obtain ⟨r, hr⟩ : ∃ r, R = r + 1 := ⟨R - 1, by omega⟩
  have er : nI R - 1 = nI r := by rw [hr]; exact nI_pred r
  rw [er]
  refine ⟨_, kt_lo126 (sz := sz) hY nuE kpE hT hal ?_ r 255 (fun v => if (a3 v).toInt < 0 then 0 else sz v) b13 a14 b17 (by omega) ⟨?_, ?_, ?_, ?_, ?_, ?_⟩⟩
  · intro F G hl M c13 c14 b6 d13 d14 d17 b18 b19 hI hF hU
    obtain ⟨u1, u2, u3, u4, u5, u6⟩ := hU
    refine H b6 d13 d14 b15 b16 d17 b18 b19 ⟨kp, hl, F, G, fun o h1 h2 => ?_, hX.1, fun v hv => ⟨(u2 v hv).1, ?_⟩, fun v h1 h2 => hF v ⟨h1, h2⟩, hI, ?_⟩
    · obtain ⟨x, x1, x2⟩ := (alx o).mp ⟨by omega, h2⟩
      have x3 := o16 x x1 (by omega)
      have t := (hd x x3 x1).2.2
      have k := kpE x x3 x1
      have s := hX.2 x x3 x1
      have t4 := hod (dm x) (by omega)
      rw [← x2, k.1]
      exact ⟨t4.2.1, k.2, ((alx _).mpr ⟨dm x, by omega, rfl⟩).2, s.2, u5 x x3 x1⟩
    · have := (u2 v hv).2
      omega
    · rw [u6]
      refine kt_sm_eq (fun o ho => ?_)
      (try dsimp only)
      have c : (((0 : Nat) : Int) < (a3 o).toInt ∧ b15 o = 16) ↔ (0 ≤ (a3 o).toInt ∧ b15 o = 16) := by
        refine ⟨fun z => ⟨by omega, z.2⟩, fun z => ⟨?_, z.2⟩⟩
        obtain ⟨x, x1, x2⟩ := (alx o).mp ⟨by omega, z.1⟩
        have x3 := o16 x x1 (by omega)
        rw [← x2, (hod x x1).2.2, nI_toInt (by omega)]
        omega
      by_cases c3 : (((0 : Nat) : Int) < (a3 o).toInt ∧ b15 o = 16)
      · rw [if_pos c3, if_pos (c.mp c3)]
      · rw [if_neg c3, if_neg (fun z => c3 (c.mpr z))]
  · exact kt_L_0 (fun v z => by obtain ⟨x, z1, z2, _⟩ := z; omega) (fun p hp => (h19 p hp).2)
  · intro v hv
    (try dsimp only)
    rw [(h19 v hv).1]
    by_cases c : (a3 v).toInt < 0
    · rw [if_pos c, if_pos c]
      exact ⟨rfl, by omega⟩
    · rw [if_neg c, if_neg c]
      exact hz v hv
  · exact Nat.mul_le_mul_left 255 (Nat.pow_le_pow_right (by omega) (by omega))
  · intro x hx
    (try dsimp only)
    rw [(hod x hx).2.2, if_neg (kt_nI0 (by omega))]
    exact Nat.le_refl _
  · intro x h1 h2
    omega
  · (try dsimp only)
    rw [hz16]
    have t : kt_sm (fun o => if (r : Int) < (a3 o).toInt ∧ b15 o = 16 then (if (a3 o).toInt < 0 then 0 else sz o) else 0) 16 = kt_sm (fun _ => 0) 16 := by
      refine kt_sm_eq (fun o ho => ?_)
      (try dsimp only)
      refine if_neg (fun z => ?_)
      obtain ⟨x, x1, x2⟩ := (alx o).mp ⟨by omega, by omega⟩
      have z1 := z.1
      rw [← x2, (hod x x1).2.2, nI_toInt (by omega)] at z1
      omega
    rw [t]
    split <;> decide
end
end
section
section
variable {q0 q1 q2 : Int32} {a1 a2 a3 a4 a5 a6 a7 a8 a9 a10 a11 a12 a13 a14 a15 a16 a17 a18 a19 : Nat → Int32} {sz : Nat → Nat} {o g k : Nat}
theorem kt_prep1 {post : St1 → Prop} (h : post (q0, 1, q2, a1, a2, a3, a4, a5, a6, a7, a8, a9, a10, a11, a12, a13, a14, a15, a16, a17, a18, a19)) : wpX_prepare post (q0, 1, q2, a1, a2, a3, a4, a5, a6, a7, a8, a9, a10, a11, a12, a13, a14, a15, a16, a17, a18, a19) := by
  unfold wpX_prepare
  (try dsimp only)
  exact br_f (by decide) h
theorem kt_prep0 {post : St1 → Prop} (hz : ∀ v, v < 17 → a1 v = nI (sz v) ∧ sz v ≤ 255) (hz16 : sz 16 = 0)
    (H : ∀ q2 a2 a3 a4 a5 a6 a7 a8 a9 a10 a11 a12 a13 a14 a15 a16 a17 a18 a19, kt_G sz a3 a15 a16 a17 a18 a19 → post (q0, 1, q2, a1, a2, a3, a4, a5, a6, a7, a8, a9, a10, a11, a12, a13, a14, a15, a16, a17, a18, a19)) :
    wpX_prepare post (q0, 0, q2, a1, a2, a3, a4, a5, a6, a7, a8, a9, a10, a11, a12, a13, a14, a15, a16, a17, a18, a19) := by
  unfold wpX_prepare
  (try dsimp only)
  refine br_t rfl (nm_e (kt_numb (fun R od tp b3 b4 b5 b6 b7 hN hO => kt_fdom hN (fun b8 b9 b10 b11 b12 b13 b14 h9 => ?_))))
  obtain ⟨dm, hY⟩ := kt_Y_of hN hO h9
  exact kt_lay hY hz hz16 (fun c6 c13 c14 c15 c16 c17 c18 c19 hG => H _ _ _ _ _ _ _ _ _ _ _ _ _ _ _ _ _ _ _ hG)
theorem kt_isob {post : Int32 → Prop} (ho : o < 16) (h : post 1) : wpX_isObject post () (nI o) := by
  unfold wpX_isObject
  exact br_f (nI_pos (by omega)) (pk_lt 15 o (fun z => absurd z (by omega)) (fun _ => h))
theorem kt_nn {x : Int32} (c : ¬ x < 0) : 0 ≤ x.toInt := by
  rcases Int.lt_or_le x.toInt 0 with z | z
  · exact absurd (kt_lt0.mpr z) c
  · exact z
theorem kt_alive {post : Int32 → St1 → Prop} (ho : o < 16) (h1 : 0 ≤ (a3 o).toInt → post 1 (q0, 1, q2, a1, a2, a3, a4, a5, a6, a7, a8, a9, a10, a11, a12, a13, a14, a15, a16, a17, a18, a19)) (h0 : (a3 o).toInt < 0 → post 0 (q0, 1, q2, a1, a2, a3, a4, a5, a6, a7, a8, a9, a10, a11, a12, a13, a14, a15, a16, a17, a18, a19)) : wpX_alive post (q0, 1, q2, a1, a2, a3, a4, a5, a6, a7, a8, a9, a10, a11, a12, a13, a14, a15, a16, a17, a18, a19) (nI o) := by
  unfold wpX_alive
  (try dsimp only)
  refine kt_isob ho (br_f (by decide) (kt_prep1 ⟨pk_in o 17 (by omega), ?_⟩))
  rw [nI_clamp (show o < 2 ^ 31 by omega)]
  exact br_c (fun c => h0 (kt_lt0.mp c)) (fun c => h1 (kt_nn c))
theorem kt_keeper {post : Int32 → St1 → Prop} (ho : o < 16) (h1 : 0 ≤ (a3 o).toInt → a15 o = 16 → post (-1) (q0, 1, q2, a1, a2, a3, a4, a5, a6, a7, a8, a9, a10, a11, a12, a13, a14, a15, a16, a17, a18, a19)) (h2 : 0 ≤ (a3 o).toInt → ¬ a15 o = 16 → post (a15 o) (q0, 1, q2, a1, a2, a3, a4, a5, a6, a7, a8, a9, a10, a11, a12, a13, a14, a15, a16, a17, a18, a19)) (h0 : (a3 o).toInt < 0 → post (-1) (q0, 1, q2, a1, a2, a3, a4, a5, a6, a7, a8, a9, a10, a11, a12, a13, a14, a15, a16, a17, a18, a19)) : wpX_keeper post (q0, 1, q2, a1, a2, a3, a4, a5, a6, a7, a8, a9, a10, a11, a12, a13, a14, a15, a16, a17, a18, a19) (nI o) := by
  unfold wpX_keeper
  (try dsimp only)
  refine kt_isob ho (br_f (by decide) (kt_prep1 ⟨pk_in o 17 (by omega), ?_⟩))
  rw [nI_clamp (show o < 2 ^ 31 by omega)]
  refine br_c (fun c => h0 (kt_lt0.mp c)) (fun c => ⟨pk_in o 17 (by omega), ?_⟩)
  unfold wpX_visible
  exact br_c (fun e => h1 (kt_nn c) e) (fun e => h2 (kt_nn c) e)
theorem kt_held {post : Int32 → St1 → Prop} (ho : o < 16) (h1 : 0 ≤ (a3 o).toInt → post (a17 o) (q0, 1, q2, a1, a2, a3, a4, a5, a6, a7, a8, a9, a10, a11, a12, a13, a14, a15, a16, a17, a18, a19)) (h0 : (a3 o).toInt < 0 → post 0 (q0, 1, q2, a1, a2, a3, a4, a5, a6, a7, a8, a9, a10, a11, a12, a13, a14, a15, a16, a17, a18, a19)) : wpX_held post (q0, 1, q2, a1, a2, a3, a4, a5, a6, a7, a8, a9, a10, a11, a12, a13, a14, a15, a16, a17, a18, a19) (nI o) := by
  unfold wpX_held
  (try dsimp only)
  refine kt_isob ho (br_f (by decide) (kt_prep1 ⟨pk_in o 17 (by omega), ?_⟩))
  rw [nI_clamp (show o < 2 ^ 31 by omega)]
  exact br_c (fun c => h0 (kt_lt0.mp c)) (fun c => ⟨pk_in o 17 (by omega), h1 (kt_nn c)⟩)
theorem kt_depth {post : Int32 → St1 → Prop} (ho : o < 16) (h1 : 0 ≤ (a3 o).toInt → post (a16 o) (q0, 1, q2, a1, a2, a3, a4, a5, a6, a7, a8, a9, a10, a11, a12, a13, a14, a15, a16, a17, a18, a19)) (h0 : (a3 o).toInt < 0 → post 0 (q0, 1, q2, a1, a2, a3, a4, a5, a6, a7, a8, a9, a10, a11, a12, a13, a14, a15, a16, a17, a18, a19)) : wpX_depth post (q0, 1, q2, a1, a2, a3, a4, a5, a6, a7, a8, a9, a10, a11, a12, a13, a14, a15, a16, a17, a18, a19) (nI o) := by
  unfold wpX_depth
  (try dsimp only)
  refine kt_isob ho (br_f (by decide) (kt_prep1 ⟨pk_in o 17 (by omega), ?_⟩))
  rw [nI_clamp (show o < 2 ^ 31 by omega)]
  exact br_c (fun c => h0 (kt_lt0.mp c)) (fun c => ⟨pk_in o 17 (by omega), h1 (kt_nn c)⟩)
theorem kt_total {post : Int32 → St1 → Prop} (h : post (a17 16) (q0, 1, q2, a1, a2, a3, a4, a5, a6, a7, a8, a9, a10, a11, a12, a13, a14, a15, a16, a17, a18, a19)) : wpX_total post (q0, 1, q2, a1, a2, a3, a4, a5, a6, a7, a8, a9, a10, a11, a12, a13, a14, a15, a16, a17, a18, a19) := by
  unfold wpX_total
  (try dsimp only)
  exact kt_prep1 h
/-- g guards o -/
def kt_gd (a3 a18 a19 : Nat → Int32) (g o : Nat) : Prop := 0 ≤ (a3 g).toInt ∧ 0 ≤ (a3 o).toInt ∧ ¬ a18 o < a18 g ∧ ¬ a19 g < a18 o
theorem kt_guards {post : Int32 → St1 → Prop} (hg : g < 16) (ho : o < 16) (h1 : kt_gd a3 a18 a19 g o → post 1 (q0, 1, q2, a1, a2, a3, a4, a5, a6, a7, a8, a9, a10, a11, a12, a13, a14, a15, a16, a17, a18, a19)) (h0 : ¬ kt_gd a3 a18 a19 g o → post 0 (q0, 1, q2, a1, a2, a3, a4, a5, a6, a7, a8, a9, a10, a11, a12, a13, a14, a15, a16, a17, a18, a19)) : wpX_guards post (q0, 1, q2, a1, a2, a3, a4, a5, a6, a7, a8, a9, a10, a11, a12, a13, a14, a15, a16, a17, a18, a19) (nI g) (nI o) := by
  unfold wpX_guards
  (try dsimp only)
  refine kt_isob hg (br_f (by decide) (kt_isob ho (br_f (by decide) (kt_prep1 ?_))))
  have Z : ∀ h : ¬ kt_gd a3 a18 a19 g o, ((0 : Int32) = 0 → post 0 (q0, 1, q2, a1, a2, a3, a4, a5, a6, a7, a8, a9, a10, a11, a12, a13, a14, a15, a16, a17, a18, a19)) ∧ (¬ (0 : Int32) = 0 → post 1 (q0, 1, q2, a1, a2, a3, a4, a5, a6, a7, a8, a9, a10, a11, a12, a13, a14, a15, a16, a17, a18, a19)) := fun h => br_t rfl (h0 h)
  unfold wpX_holds
  (try dsimp only)
  refine ⟨pk_in g 17 (by omega), ?_⟩
  rw [nI_clamp (show o < 2 ^ 31 by omega), nI_clamp (show g < 2 ^ 31 by omega)]
  refine br_c (fun c => Z (fun z => absurd (kt_lt0.mp c) (by have := z.1; omega))) (fun c => ⟨pk_in o 17 (by omega), br_c (fun c2 => ⟨pk_in g 17 (by omega), pk_in o 17 (by omega), br_c (fun c3 => Z (fun z => z.2.2.1 c3)) (fun c3 => ⟨pk_in o 17 (by omega), pk_in g 17 (by omega), br_c (fun c4 => Z (fun z => z.2.2.2 c4)) (fun c4 => br_f (by decide) (h1 ⟨kt_nn c, kt_ge0.mp c2, c3, c4⟩))⟩)⟩) (fun c2 => Z (fun z => c2 (kt_ge0.mpr z.2.1)))⟩)
end
end
section
section
variable {q0 q1 q2 : Int32} {a1 a2 a3 a4 a5 a6 a7 a8 a9 a10 a11 a12 a13 a14 a15 a16 a17 a18 a19 : Nat → Int32} {sz : Nat → Nat} {o g k : Nat} {lo hi : Int64}
abbrev kt_Jt : Type := Int32 → Int32 → Int32 → Int32 → (Nat → Int32) → (Nat → Int32) → (Nat → Int32) → (Nat → Int32) → (Nat → Int32) → (Nat → Int32) → (Nat → Int32) → (Nat → Int32) → (Nat → Int32) → (Nat → Int32) → (Nat → Int32) → (Nat → Int32) → (Nat → Int32) → (Nat → Int32) → (Nat → Int32) → (Nat → Int32) → (Nat → Int32) → (Nat → Int32) → (Nat → Int32) → Prop
theorem kt_k148 {post : Int32 → St1 → Prop} {J : kt_Jt} {x6 z : Int32} (hg : g < 16) (ho : o < 16) (hz : (z = 1 ∧ kt_gd a3 a18 a19 g o) ∨ (z = 0 ∧ ¬ kt_gd a3 a18 a19 g o)) (hJ : J (nI (g + 1)) q0 1 q2 a1 a2 a3 a4 a5 a6 a7 a8 a9 a10 a11 a12 a13 a14 a15 a16 a17 a18 a19) :
    wL_kept_148 post J (nI o) x6 (nI g) z q0 1 q2 a1 a2 a3 a4 a5 a6 a7 a8 a9 a10 a11 a12 a13 a14 a15 a16 a17 a18 a19 := by
  unfold wL_kept_148
  refine kt_guards hg ho (fun h => ?_) (fun h => ?_)
  · rcases hz with ⟨e, _⟩ | ⟨_, n⟩
    · subst e
      refine br_f (by decide) ?_
      unfold wL_kept_167
      exact br_t rfl (nm_r (nI_1 g) hJ)
    · exact absurd h n
  · rcases hz with ⟨_, n⟩ | ⟨e, _⟩
    · exact absurd n h
    · subst e
      refine br_t rfl ?_
      unfold wL_kept_167
      exact br_t rfl (nm_r (nI_1 g) hJ)
theorem kt_k113 {post : Int32 → St1 → Prop} {x6 : Int32} (ho : o < 16) (hx : (x6 < 0 ∧ ∀ g, g < 16 → (kt_gd a3 a18 a19 g o ↔ g = o)) ∨ (∃ k, k < 16 ∧ x6 = nI k ∧ ∀ g, g < 16 → (kt_gd a3 a18 a19 g o ↔ g = o ∨ kt_gd a3 a18 a19 g k))) (H : post 1 (q0, 1, q2, a1, a2, a3, a4, a5, a6, a7, a8, a9, a10, a11, a12, a13, a14, a15, a16, a17, a18, a19)) :
    ∀ (m g : Nat), m + g = 16 → wL_kept_113 post (nI o) x6 (m + 1) (nI g) q0 1 q2 a1 a2 a3 a4 a5 a6 a7 a8 a9 a10 a11 a12 a13 a14 a15 a16 a17 a18 a19 := by
  intro m
  induction m with
  | zero =>
    intro g hm
    have e : g = 16 := by omega
    subst e
    exact pk_le 16 16 (fun _ => H) (fun z => absurd z (by omega))
  | succ m ih =>
    intro g hm
    have hJ := ih (g + 1) (by omega)
    refine pk_le 16 g (fun z => absurd z (by omega)) (fun _ => pk_eq g o (fun e => ?_) (fun e => ?_))
    · unfold wL_kept_143
      refine kt_k148 (by omega) ho (Or.inl ⟨rfl, ?_⟩) hJ
      rcases hx with ⟨_, h⟩ | ⟨k, _, _, h⟩
      · exact (h g (by omega)).mpr e
      · exact (h g (by omega)).mpr (Or.inl e)
    · rcases hx with ⟨h0, h⟩ | ⟨k, hk, ek, h⟩
      · refine br_t h0 ?_
        unfold wL_kept_147
        exact kt_k148 (by omega) ho (Or.inr ⟨rfl, fun z => e ((h g (by omega)).mp z)⟩) hJ
      · subst ek
        refine br_f (nI_pos (by omega)) (kt_guards (by omega) hk (fun c => br_t rfl ?_) (fun c => br_f (by decide) ?_))
        · unfold wL_kept_143
          exact kt_k148 (by omega) ho (Or.inl ⟨rfl, (h g (by omega)).mpr (Or.inr c)⟩) hJ
        · unfold wL_kept_147
          exact kt_k148 (by omega) ho (Or.inr ⟨rfl, fun z => ((h g (by omega)).mp z).elim e c⟩) hJ
/-- the law's bytes of sizes -/
def kt_Z (lo hi : Int64) (sz : Nat → Nat) : Prop :=
  (∀ k, k < 8 → (lo >>> ((8 * nI k).toInt64 &&& 63)).toInt32 &&& 255 = nI (sz k)) ∧ (∀ k, 8 ≤ k → k < 16 → (hi >>> ((8 * (nI k - 8)).toInt64 &&& 63)).toInt32 &&& 255 = nI (sz k))
theorem kt_gd_o (hG : kt_G sz a3 a15 a16 a17 a18 a19) (ho : o < 16) (h1 : 0 ≤ (a3 o).toInt) (e : a15 o = 16) : ∀ g, g < 16 → (kt_gd a3 a18 a19 g o ↔ g = o) := by
  obtain ⟨kp, hl, F, G, g1, g2, g3, g4, g5, g6⟩ := hG
  intro g hg
  obtain ⟨k1, k2, k3, k4, k5⟩ := g1 o ho h1
  have ek : kp o = 16 := by
    rw [k2] at e
    exact kt_inj (b := 16) e (by omega) (by omega)
  obtain ⟨fo, go, fo1, go1⟩ := g4 o (by omega) h1
  constructor
  · intro ⟨c1, c2, c3, c4⟩
    obtain ⟨fg, gg, fg1, gg1⟩ := g4 g (by omega) c1
    rw [fo, fg, nI_ltI (by omega) (by omega)] at c3
    rw [gg, fo, nI_ltI (by omega) (by omega)] at c4
    rcases (g5.1 o g ⟨by omega, h1⟩ (by omega) ⟨by omega, c1⟩).mp ⟨by omega, by omega⟩ with t | ⟨t1, t2⟩
    · exact t
    · rw [ek] at t1
      have := g5.2 g ⟨by omega, c1⟩ t1
      omega
  · intro e2
    rw [e2]
    have t := (g5.1 o o ⟨by omega, h1⟩ (by omega) ⟨by omega, h1⟩).mpr (Or.inl rfl)
    refine ⟨h1, h1, ?_, ?_⟩
    · rw [fo, nI_ltI (by omega) (by omega)]
      omega
    · rw [fo, go, nI_ltI (by omega) (by omega)]
      omega
theorem kt_gd_k (hG : kt_G sz a3 a15 a16 a17 a18 a19) (ho : o < 16) (h1 : 0 ≤ (a3 o).toInt) (hk : k < 16) (e : a15 o = nI k) : ∀ g, g < 16 → (kt_gd a3 a18 a19 g o ↔ g = o ∨ kt_gd a3 a18 a19 g k) := by
  obtain ⟨kp, hl, F, G, g1, g2, g3, g4, g5, g6⟩ := hG
  intro g hg
  obtain ⟨k1, k2, k3, k4, k5⟩ := g1 o ho h1
  have ek : kp o = k := by
    rw [k2] at e
    exact kt_inj e (by omega) (by omega)
  rw [ek] at k3
  obtain ⟨fo, go, fo1, go1⟩ := g4 o (by omega) h1
  obtain ⟨fk, gk, fk1, gk1⟩ := g4 k (by omega) k3
  by_cases c1 : 0 ≤ (a3 g).toInt
  · obtain ⟨fg, gg, fg1, gg1⟩ := g4 g (by omega) c1
    have t := g5.1 o g ⟨by omega, h1⟩ (by omega) ⟨by omega, c1⟩
    rw [ek] at t
    unfold kt_gd
    rw [fo, fg, gg, fk, nI_ltI (by omega) (by omega), nI_ltI (by omega) (by omega), nI_ltI (by omega) (by omega), nI_ltI (by omega) (by omega)]
    constructor
    · intro ⟨_, _, s1, s2⟩
      rcases t.mp ⟨by omega, by omega⟩ with q | ⟨q1, q2⟩
      · exact Or.inl q
      · exact Or.inr ⟨c1, k3, by omega, by omega⟩
    · intro s
      have q := t.mpr (s.elim (fun z => Or.inl z) (fun z => Or.inr ⟨by have := z.2.2.1; omega, by have := z.2.2.2; omega⟩))
      exact ⟨c1, h1, by omega, by omega⟩
  · constructor
    · intro z
      exact absurd z.1 c1
    · intro z
      rcases z with z | z
      · rw [z] at c1
        exact absurd h1 c1
      · exact absurd z.1 c1
theorem kt_k52 {post : Int32 → St1 → Prop} {z : Int64} (hG : kt_G sz a3 a15 a16 a17 a18 a19) (ho : o < 16) (h1 : 0 ≤ (a3 o).toInt) (hk : k < 16) (e : a15 o = nI k) (hz : z.toInt32 &&& 255 = nI (sz k)) (H : post 1 (q0, 1, q2, a1, a2, a3, a4, a5, a6, a7, a8, a9, a10, a11, a12, a13, a14, a15, a16, a17, a18, a19)) :
    wL_kept_52 post (nI o) (nI k) z q0 1 q2 a1 a2 a3 a4 a5 a6 a7 a8 a9 a10 a11 a12 a13 a14 a15 a16 a17 a18 a19 := by
  have gd := kt_gd_k hG ho h1 hk e
  obtain ⟨kp, hl, F, G, g1, g2, g3, g4, g5, g6⟩ := hG
  obtain ⟨k1, k2, k3, k4, k5⟩ := g1 o ho h1
  have ek : kp o = k := by
    rw [k2] at e
    exact kt_inj e (by omega) (by omega)
  rw [ek] at k3 k4 k5
  obtain ⟨ho17, ho30⟩ := g3 o (by omega)
  obtain ⟨hk17, hk30⟩ := g3 k (by omega)
  unfold wL_kept_52
  refine nm_r hz (br_f (nI_pos (by omega)) (pk_lt 15 k (fun z => absurd z (by omega)) (fun _ => kt_held hk (fun _ => kt_held ho (fun _ => ?_) (fun c => absurd c (by omega))) (fun c => absurd c (by omega)))))
  rw [ho17, hk17, nI_add]
  refine pk_lt (hl k) (hl o + sz k) (fun c => absurd c (by omega)) (fun _ => kt_depth ho (fun _ => kt_depth hk (fun _ => br_t k4 ⟨17, kt_k113 ho (Or.inr ⟨k, hk, rfl, gd⟩) H 16 0 (by omega)⟩) (fun c => absurd c (by omega))) (fun c => absurd c (by omega)))
theorem kt_kept {post : Int32 → St1 → Prop} (hG : kt_G sz a3 a15 a16 a17 a18 a19) (hZ : kt_Z lo hi sz) (ho : o < 16) (h1 : 0 ≤ (a3 o).toInt) (H : post 1 (q0, 1, q2, a1, a2, a3, a4, a5, a6, a7, a8, a9, a10, a11, a12, a13, a14, a15, a16, a17, a18, a19)) :
    wpL_kept post (q0, 1, q2, a1, a2, a3, a4, a5, a6, a7, a8, a9, a10, a11, a12, a13, a14, a15, a16, a17, a18, a19) (nI o) lo hi := by
  unfold wpL_kept
  (try dsimp only)
  refine kt_keeper ho (fun _ e => ?_) (fun _ e => ?_) (fun c => absurd c (by omega))
  · have gd := kt_gd_o hG ho h1 e
    obtain ⟨kp, hl, F, G, g1, g2, g3, g4, g5, g6⟩ := hG
    obtain ⟨k1, k2, k3, k4, k5⟩ := g1 o ho h1
    have ek : kp o = 16 := by
      rw [k2] at e
      exact kt_inj (b := 16) e (by omega) (by omega)
    rw [ek, g2] at k4
    refine br_t rfl (kt_depth ho (fun _ => br_t k4 ⟨17, kt_k113 ho (Or.inl ⟨by decide, gd⟩) H 16 0 (by omega)⟩) (fun c => absurd h1 (Int.not_le.mpr c)))
  · obtain ⟨k, hk, ek⟩ : ∃ k, k < 16 ∧ a15 o = nI k := by
      obtain ⟨kp, hl, F, G, g1, g2, g3, g4, g5, g6⟩ := id hG
      obtain ⟨k1, k2, k3, k4, k5⟩ := g1 o ho h1
      refine ⟨kp o, ?_, k2⟩
      have : kp o ≠ 16 := fun z => e (by rw [k2, z]; rfl)
      omega
    rw [ek]
    refine br_f (fun z => absurd (congrArg Int32.toInt z) (by rw [nI_toInt (by omega), kt_neg1]; omega)) (pk_le 8 k (fun c => ?_) (fun c => ?_))
    · exact kt_k52 hG ho h1 hk ek (hZ.2 k c hk) H
    · exact kt_k52 hG ho h1 hk ek (hZ.1 k c) H
theorem kt_h6 {post : Int32 → St1 → Prop} {hl f : Nat → Nat} (hG : kt_G sz a3 a15 a16 a17 a18 a19) (hZ : kt_Z lo hi sz) (H : post 1 (q0, 1, q2, a1, a2, a3, a4, a5, a6, a7, a8, a9, a10, a11, a12, a13, a14, a15, a16, a17, a18, a19))
    (h17 : ∀ v, v < 17 → a17 v = nI (hl v)) (hs : hl 16 = kt_sm f 16) (hf : ∀ o, f o = if 0 ≤ (a3 o).toInt ∧ a15 o = 16 then hl o else 0) :
    ∀ (m o : Nat), m + o = 16 → wL_holds_6 post lo hi (m + 1) (nI (kt_sm f o)) (nI o) q0 1 q2 a1 a2 a3 a4 a5 a6 a7 a8 a9 a10 a11 a12 a13 a14 a15 a16 a17 a18 a19 := by
  intro m
  induction m with
  | zero =>
    intro o hm
    have e : o = 16 := by omega
    subst e
    refine pk_le 16 16 (fun _ => kt_total (br_t ?_ H)) (fun z => absurd z (by omega))
    rw [h17 16 (by omega), hs]
  | succ m ih =>
    intro o hm
    have hJ := ih (o + 1) (by omega)
    have hfo : kt_sm f (o + 1) = kt_sm f o + f o := rfl
    refine pk_le 16 o (fun z => absurd z (by omega)) (fun _ => kt_alive (by omega) (fun h1 => br_t rfl (kt_kept hG hZ (by omega) h1 (br_f (by decide) (kt_keeper (by omega) (fun _ e => br_t rfl (kt_held (by omega) (fun _ => ?_) (fun c => absurd c (by omega)))) (fun _ e => br_f ?_ (nm_r (nI_1 o) ?_)) (fun c => absurd c (by omega)))))) (fun h0 => br_f (by decide) (kt_keeper (by omega) (fun c => absurd c (by omega)) (fun c => absurd c (by omega)) (fun _ => br_t rfl (kt_held (by omega) (fun c => absurd c (by omega)) (fun _ => br_t rfl (kt_depth (by omega) (fun c => absurd c (by omega)) (fun _ => br_t rfl (nm_r (nI_1 o) ?_)))))))))
    · refine nm_r (e' := nI (kt_sm f (o + 1))) ?_ (nm_r (nI_1 o) hJ)
      rw [h17 o (by omega), nI_add, hfo, hf o, if_pos ⟨h1, e⟩]
    · intro z
      obtain ⟨kp, hl, F, G, g1, g2, g3, g4, g5, g6⟩ := id hG
      obtain ⟨k1, k2, k3, k4, k5⟩ := g1 o (by omega) h1
      rw [k2] at z
      exact absurd (congrArg Int32.toInt z) (by rw [nI_toInt (by omega), kt_neg1]; omega)
    · rw [hfo, hf o, if_neg (fun z => e z.2)] at hJ
      exact hJ
    · rw [hfo, hf o, if_neg (fun z => absurd z.1 (by omega))] at hJ
      exact hJ
theorem kt_prepA {post : Int32 → St1 → Prop} (hz : ∀ v, v < 17 → a1 v = nI (sz v) ∧ sz v ≤ 255) (hz16 : sz 16 = 0) (ho : o < 16)
    (H : ∀ q2 a2 a3 a4 a5 a6 a7 a8 a9 a10 a11 a12 a13 a14 a15 a16 a17 a18 a19, kt_G sz a3 a15 a16 a17 a18 a19 → wpX_alive post (q0, 1, q2, a1, a2, a3, a4, a5, a6, a7, a8, a9, a10, a11, a12, a13, a14, a15, a16, a17, a18, a19) (nI o)) : wpX_alive post (q0, 0, q2, a1, a2, a3, a4, a5, a6, a7, a8, a9, a10, a11, a12, a13, a14, a15, a16, a17, a18, a19) (nI o) := by
  unfold wpX_alive
  (try dsimp only)
  refine kt_isob ho (br_f (by decide) (kt_prep0 hz hz16 (fun q2 a2 a3 a4 a5 a6 a7 a8 a9 a10 a11 a12 a13 a14 a15 a16 a17 a18 a19 hG => ?_)))
  have t := H q2 a2 a3 a4 a5 a6 a7 a8 a9 a10 a11 a12 a13 a14 a15 a16 a17 a18 a19 hG
  unfold wpX_alive at t
  (try dsimp only at t)
  unfold wpX_isObject at t
  have t2 := ((t.2 (nI_pos (by omega))).2 (nI_nlt (a := 15) (b := o) (by omega) (by omega))).2 (by decide)
  unfold wpX_prepare at t2
  (try dsimp only at t2)
  exact t2.2 (by decide)
theorem kt_holds {post : Int32 → St1 → Prop} (hz : ∀ v, v < 17 → a1 v = nI (sz v) ∧ sz v ≤ 255) (hz16 : sz 16 = 0) (hZ : kt_Z lo hi sz)
    (H : ∀ q2 a2 a3 a4 a5 a6 a7 a8 a9 a10 a11 a12 a13 a14 a15 a16 a17 a18 a19, post 1 (q0, 1, q2, a1, a2, a3, a4, a5, a6, a7, a8, a9, a10, a11, a12, a13, a14, a15, a16, a17, a18, a19)) : wpL_holds post (q0, 0, q2, a1, a2, a3, a4, a5, a6, a7, a8, a9, a10, a11, a12, a13, a14, a15, a16, a17, a18, a19) lo hi := by
  unfold wpL_holds
  (try dsimp only)
  refine ⟨17, pk_le 16 0 (fun z => absurd z (by omega)) (fun _ => kt_prepA (o := 0) hz hz16 (by omega) (fun q2 a2 a3 a4 a5 a6 a7 a8 a9 a10 a11 a12 a13 a14 a15 a16 a17 a18 a19 hG => ?_))⟩
  obtain ⟨kp, hl, F, G, g1, g2, g3, g4, g5, g6⟩ := id hG
  have t := kt_h6 (f := fun o => if 0 ≤ (a3 o).toInt ∧ a15 o = 16 then hl o else 0) (q0 := q0) (q2 := q2) (a1 := a1) (a2 := a2) (a4 := a4) (a5 := a5) (a6 := a6) (a7 := a7) (a8 := a8) (a9 := a9) (a10 := a10) (a11 := a11) (a12 := a12) (a13 := a13) (a14 := a14) (lo := lo) (hi := hi) hG hZ (H q2 a2 a3 a4 a5 a6 a7 a8 a9 a10 a11 a12 a13 a14 a15 a16 a17 a18 a19) (fun v hv => (g3 v hv).1) g6 (fun o => rfl) 16 0 (by omega)
  exact t.2 (nI_ge (b := 16) (a := 0) (by omega) (by omega))
end
end
section
section
variable {sz : Nat → Nat} {lo hi : Int64} {a b k : Nat}
def kt_lb (x : Int64) (i : Nat) : Bool := x.toBitVec.getLsbD i
theorem kt_c64 : ∀ k, k < 8 → (((8 * nI k).toInt64 &&& 63).toBitVec.smod 64).toNat = 8 * k := by decide +kernel
theorem kt_l255 : ∀ i, i < 64 → kt_lb 255 i = decide (i < 8) := by decide +kernel
theorem kt_lm1 : ∀ i, i < 64 → kt_lb (-1) i = true := by decide +kernel
theorem kt_b255 : ∀ i, i < 32 → kt_bt 255 i = decide (i < 8) := by decide +kernel
theorem kt_lb_and (x y : Int64) (i : Nat) : kt_lb (x &&& y) i = (kt_lb x i && kt_lb y i) := by unfold kt_lb; rw [Int64.toBitVec_and, BitVec.getLsbD_and]
theorem kt_lb_or (x y : Int64) (i : Nat) : kt_lb (x ||| y) i = (kt_lb x i || kt_lb y i) := by unfold kt_lb; rw [Int64.toBitVec_or, BitVec.getLsbD_or]
theorem kt_lb_xor (x y : Int64) (i : Nat) : kt_lb (x ^^^ y) i = (kt_lb x i ^^ kt_lb y i) := by unfold kt_lb; rw [Int64.toBitVec_xor, BitVec.getLsbD_xor]
theorem kt_lb_shl (x s : Int64) (n : Nat) (hs : (s.toBitVec.smod 64).toNat = n) {i : Nat} (hi : i < 64) : kt_lb (x <<< s) i = (decide (n ≤ i) && kt_lb x (i - n)) := by
  unfold kt_lb
  rw [Int64.toBitVec_shiftLeft]
  show (x.toBitVec <<< (s.toBitVec.smod 64).toNat).getLsbD i = _
  rw [hs, BitVec.getLsbD_shiftLeft]
  rcases Nat.lt_or_ge i n with h | h
  · simp [h, Nat.not_le.mpr h]
  · simp [hi, h, Nat.not_lt.mpr h]
theorem kt_lb_shr (x s : Int64) (n : Nat) (hs : (s.toBitVec.smod 64).toNat = n) {i : Nat} (hi : n + i < 64) : kt_lb (x >>> s) i = kt_lb x (n + i) := by
  unfold kt_lb
  rw [Int64.toBitVec_shiftRight]
  show (x.toBitVec.sshiftRight (s.toBitVec.smod 64).toNat).getLsbD i = _
  rw [hs, BitVec.getLsbD_sshiftRight]
  have h2 : ¬ 64 ≤ i := by omega
  simp [h2, hi]
theorem kt_bt_int (x : Int64) {i : Nat} (hi : i < 32) : kt_bt x.toInt32 i = kt_lb x i := by
  unfold kt_bt kt_lb
  rw [Int64.toBitVec_toInt32, BitVec.getLsbD_signExtend]
  have h2 : i < 64 := by omega
  simp [hi, h2]
/-- byte k of x, by its bits -/
theorem kt_byte (x s : Int64) (k : Nat) (hk : k < 8) (hs : (s.toBitVec.smod 64).toNat = 8 * k) {i : Nat} (hi : i < 32) : kt_bt ((x >>> s).toInt32 &&& 255) i = (decide (i < 8) && kt_lb x (8 * k + i)) := by
  rw [kt_b_and, kt_b255 i hi, kt_bt_int _ hi]
  by_cases h : i < 8
  · rw [kt_lb_shr x s (8 * k) hs (by omega)]
    simp [h]
  · simp [h]
theorem kt_bn {n i : Nat} (hi : i < 32) : kt_bt (nI n) i = n.testBit i := by
  show (BitVec.ofNat 32 n).getLsbD i = _
  rw [BitVec.getLsbD_ofNat]
  simp [hi]
theorem kt_ln {n i : Nat} (hi : i < 64) : kt_lb (lN n) i = n.testBit i := by
  show (BitVec.ofNat 64 n).getLsbD i = _
  rw [BitVec.getLsbD_ofNat]
  simp [hi]
theorem kt_hi8 {b i : Nat} (hb : b < 256) (hi : 8 ≤ i) : b.testBit i = false := by
  refine Nat.testBit_lt_two_pow (Nat.lt_of_lt_of_le hb ?_)
  exact (Nat.pow_le_pow_right (by omega) hi : 2 ^ 8 ≤ 2 ^ i)
/-- a byte stored, a byte read -/
theorem kt_by_put (x s s' : Int64) (a k b : Nat) (ha : a < 8) (hk : k < 8) (hb : b < 256) (hs : (s.toBitVec.smod 64).toNat = 8 * a) (hs' : (s'.toBitVec.smod 64).toNat = 8 * k) :
    ((((x &&& (((255 : Int64) <<< s) ^^^ (-1))) ||| ((nI b).toInt64 <<< s)) >>> s').toInt32 &&& 255) = if k = a then nI b else ((x >>> s').toInt32 &&& 255) := by
  refine kt_b_ext (fun i hi => ?_)
  rw [kt_byte _ s' k hk hs' hi]
  by_cases h8 : i < 8
  · have hlt : 8 * k + i < 64 := by omega
    rw [kt_lb_or, kt_lb_and, kt_lb_xor, kt_lm1 _ hlt, kt_lb_shl _ s (8 * a) hs hlt, kt_lb_shl _ s (8 * a) hs hlt, nI_l (by omega)]
    by_cases e : k = a
    · subst e
      rw [if_pos rfl, show 8 * k + i - 8 * k = i by omega, kt_l255 i (by omega), kt_ln (by omega), kt_bn hi]
      simp [h8]
    · rw [if_neg e, kt_byte x s' k hk hs' hi]
      rcases Nat.lt_or_ge k a with g | g
      · have n1 : ¬ 8 * a ≤ 8 * k + i := by omega
        simp [n1, h8]
      · rw [kt_l255 _ (show 8 * k + i - 8 * a < 64 by omega), kt_ln (show 8 * k + i - 8 * a < 64 by omega), kt_hi8 hb (show 8 ≤ 8 * k + i - 8 * a by omega)]
        have n2 : ¬ 8 * k + i - 8 * a < 8 := by omega
        simp [h8, n2]
  · by_cases e : k = a
    · rw [if_pos e, kt_bn hi, kt_hi8 hb (by omega)]
      simp [h8]
    · rw [if_neg e, kt_byte x s' k hk hs' hi]
      simp [h8]
theorem kt_Z_0 : kt_Z 0 0 (fun _ => 0) := by
  constructor
  · intro k hk
    refine kt_b_ext (fun i hi => ?_)
    rw [kt_byte 0 _ k hk (kt_c64 k hk) hi]
    have t1 : kt_lb 0 (8 * k + i) = false := BitVec.getLsbD_zero
    have t2 : kt_bt (nI 0) i = false := BitVec.getLsbD_zero
    rw [t1, t2, Bool.and_false]
  · intro k hk hk2
    have e : nI k - 8 = nI (k - 8) := pk_sub (a := k) (b := 8) hk
    refine kt_b_ext (fun i hi => ?_)
    rw [e, kt_byte 0 _ (k - 8) (by omega) (kt_c64 (k - 8) (by omega)) hi]
    have t1 : kt_lb 0 (8 * (k - 8) + i) = false := BitVec.getLsbD_zero
    have t2 : kt_bt (nI 0) i = false := BitVec.getLsbD_zero
    rw [t1, t2, Bool.and_false]
theorem kt_Z_lo {sz' : Nat → Nat} (h : kt_Z lo hi sz) (ha : a < 8) (hb : b < 256) (so : ∀ v, v ≠ a → sz' v = sz v) (sa : sz' a = b) :
    kt_Z ((lo &&& (((255 : Int64) <<< ((8 * nI a).toInt64 &&& 63)) ^^^ (-1))) ||| ((nI b).toInt64 <<< ((8 * nI a).toInt64 &&& 63))) hi sz' := by
  constructor
  · intro k hk
    rw [kt_by_put lo _ _ a k b ha hk hb (kt_c64 a ha) (kt_c64 k hk)]
    by_cases e : k = a
    · rw [if_pos e, e, sa]
    · rw [if_neg e, so k e]
      exact h.1 k hk
  · intro k h1 h2
    rw [so k (by omega)]
    exact h.2 k h1 h2
theorem kt_Z_hi {sz' : Nat → Nat} (h : kt_Z lo hi sz) (ha : a < 8) (hb : b < 256) (so : ∀ v, v ≠ a + 8 → sz' v = sz v) (sa : sz' (a + 8) = b) :
    kt_Z lo ((hi &&& (((255 : Int64) <<< ((8 * nI a).toInt64 &&& 63)) ^^^ (-1))) ||| ((nI b).toInt64 <<< ((8 * nI a).toInt64 &&& 63))) sz' := by
  constructor
  · intro k hk
    rw [so k (by omega)]
    exact h.1 k hk
  · intro k h1 h2
    have t := h.2 k h1 h2
    have e : nI k - 8 = nI (k - 8) := pk_sub (a := k) (b := 8) h1
    rw [e] at t
    rw [e, kt_by_put hi _ _ a (k - 8) b ha (by omega) hb (kt_c64 a ha) (kt_c64 (k - 8) (by omega))]
    by_cases e : k = a + 8
    · rw [if_pos (by omega), e, sa]
    · rw [if_neg (by omega), so k e]
      exact t
end
end
section
section
variable {q0 q1 q2 : Int32} {a1 a2 a3 a4 a5 a6 a7 a8 a9 a10 a11 a12 a13 a14 a15 a16 a17 a18 a19 : Nat → Int32} {sz : Nat → Nat} {i L kc ks : Nat} {lo hi : Int64} {xs : Nat → Int32}
abbrev kt_Jl : Type := Int64 → Int64 → kt_Jt
/-- the sizes -/
def kt_A (lo hi : Int64) (sz : Nat → Nat) (a1 : Nat → Int32) : Prop := (∀ v, v < 17 → a1 v = nI (sz v) ∧ sz v ≤ 255) ∧ sz 16 = 0 ∧ kt_Z lo hi sz
theorem kt_177 {post : Int32 → Prop} {J : kt_Jl} (hA : kt_A lo hi sz a1)
    (H : ∀ q1 q2 a2 a3 a4 a5 a6 a7 a8 a9 a10 a11 a12 a13 a14 a15 a16 a17 a18 a19, J lo hi (nI (i + 3)) q0 q1 q2 a1 a2 a3 a4 a5 a6 a7 a8 a9 a10 a11 a12 a13 a14 a15 a16 a17 a18 a19) :
    wL_law_177 post L xs J lo hi (nI i) kc ks q0 0 q2 a1 a2 a3 a4 a5 a6 a7 a8 a9 a10 a11 a12 a13 a14 a15 a16 a17 a18 a19 := by
  unfold wL_law_177
  refine kt_holds hA.1 hA.2.1 hA.2.2 (fun q2 a2 a3 a4 a5 a6 a7 a8 a9 a10 a11 a12 a13 a14 a15 a16 a17 a18 a19 => br_f (by decide) (nm_r (e' := nI (i + 3)) (nI_add i 3) (H _ _ _ _ _ _ _ _ _ _ _ _ _ _ _ _ _ _ _ _)))
theorem kt_flip {post : Int32 → St1 → Prop} {a b : Nat} (ha : a < 16) (hb : b < 16) (H : ∀ r a2, post r (q0, 0, q2, a1, a2, a3, a4, a5, a6, a7, a8, a9, a10, a11, a12, a13, a14, a15, a16, a17, a18, a19)) : wpX_flip post (q0, q1, q2, a1, a2, a3, a4, a5, a6, a7, a8, a9, a10, a11, a12, a13, a14, a15, a16, a17, a18, a19) (nI a) (nI b) := by
  unfold wpX_flip
  (try dsimp only)
  exact kt_isob ha (br_f (by decide) (kt_isob hb (br_f (by decide) ⟨pk_in a 17 (by omega), pk_in a 17 (by omega), nm_e ⟨pk_in a 17 (by omega), H _ _⟩⟩)))
theorem kt_ssz {post : Int32 → St1 → Prop} {a b : Nat} (ha : a < 16) (hb : b < 256) (H : ∀ r, post r (q0, 0, q2, (upd a1 a (nI b)), a2, a3, a4, a5, a6, a7, a8, a9, a10, a11, a12, a13, a14, a15, a16, a17, a18, a19)) : wpX_setSize post (q0, q1, q2, a1, a2, a3, a4, a5, a6, a7, a8, a9, a10, a11, a12, a13, a14, a15, a16, a17, a18, a19) (nI a) (nI b) := by
  unfold wpX_setSize
  (try dsimp only)
  exact kt_isob ha (br_f (by decide) ⟨pk_in a 17 (by omega), nm_e (br_t (nI_pos' (by omega)) (pk_le b 1000 (fun _ => ⟨pk_in a 17 (by omega), nm_r (kt_st a (by omega) rfl) (H _)⟩) (fun z => absurd z (by omega))))⟩)
theorem kt_srt {post : Int32 → St1 → Prop} {a : Nat} {x : Int32} (ha : a < 16) (H : ∀ r q0, post r (q0, 0, q2, a1, a2, a3, a4, a5, a6, a7, a8, a9, a10, a11, a12, a13, a14, a15, a16, a17, a18, a19)) : wpX_setRoot post (q0, q1, q2, a1, a2, a3, a4, a5, a6, a7, a8, a9, a10, a11, a12, a13, a14, a15, a16, a17, a18, a19) (nI a) x := by
  unfold wpX_setRoot
  (try dsimp only)
  exact kt_isob ha (br_f (by decide) (nm_e (br_c (fun _ => nm_e (H _ _)) (fun _ => nm_e (H _ _)))))
theorem kt_law16 (hL : L ≤ 260) :
    ∀ (m i : Nat) (lo hi : Int64) (sz : Nat → Nat) (q0 q1 q2 : Int32) (a1 a2 a3 a4 a5 a6 a7 a8 a9 a10 a11 a12 a13 a14 a15 a16 a17 a18 a19 : Nat → Int32), L < m + i → i ≤ 300 → kt_A lo hi sz a1 → wL_law_16 (fun r => r = 1) L xs kc ks (m + 1) lo hi (nI i) q0 q1 q2 a1 a2 a3 a4 a5 a6 a7 a8 a9 a10 a11 a12 a13 a14 a15 a16 a17 a18 a19 := by
  intro m
  induction m with
  | zero =>
    intro i lo hi sz q0 q1 q2 a1 a2 a3 a4 a5 a6 a7 a8 a9 a10 a11 a12 a13 a14 a15 a16 a17 a18 a19 hm hi300 hA
    exact pk_lt L (i + 3) (fun _ => rfl) (fun z => absurd z (by omega)) (hy := nI_add i 3)
  | succ m ih =>
    intro i lo hi sz q0 q1 q2 a1 a2 a3 a4 a5 a6 a7 a8 a9 a10 a11 a12 a13 a14 a15 a16 a17 a18 a19 hm hi300 hA
    refine pk_lt L (i + 3) (fun _ => rfl) (fun z => ⟨pk_in i L (by omega), ?_⟩) (hy := nI_add i 3)
    obtain ⟨k, hk, ek⟩ := pk_andE (xs (nI i).toNatClampNeg) (m := 15) 4 (by decide)
    obtain ⟨a, ha, ea⟩ := pk_andE (xs (nI i + 1).toNatClampNeg) (m := 15) 4 (by decide)
    obtain ⟨b, hb, eb⟩ := pk_andE (xs (nI i + 2).toNatClampNeg) (m := 255) 8 (by decide)
    have nx : ∀ {lo hi : Int64} {sz : Nat → Nat} {q0 : Int32} {a1 : Nat → Int32}, kt_A lo hi sz a1 → ∀ q1 q2 a2 a3 a4 a5 a6 a7 a8 a9 a10 a11 a12 a13 a14 a15 a16 a17 a18 a19, wL_law_16 (fun r => r = 1) L xs kc ks (m + 1) lo hi (nI (i + 3)) q0 q1 q2 a1 a2 a3 a4 a5 a6 a7 a8 a9 a10 a11 a12 a13 a14 a15 a16 a17 a18 a19 :=
      fun hA q1 q2 a2 a3 a4 a5 a6 a7 a8 a9 a10 a11 a12 a13 a14 a15 a16 a17 a18 a19 => ih (i + 3) _ _ _ _ q1 q2 _ a2 a3 a4 a5 a6 a7 a8 a9 a10 a11 a12 a13 a14 a15 a16 a17 a18 a19 (by omega) (by omega) hA
    refine nm_r ek ⟨pk_in (i + 1) L (by omega) (hx := nI_1 i), nm_r ea ⟨pk_in (i + 2) L (by omega) (hx := nI_add i 2), nm_r eb (pk_lt 1 k (fun _ => pk_lt 4 k (fun _ => ?_) (fun _ => ?_)) (fun _ => br_c (fun _ => ?_) (fun _ => ?_)))⟩⟩
    · obtain ⟨c, hc, ec⟩ := pk_andE (nI b) (m := 15) 4 (by decide)
      rw [ec]
      exact kt_flip (by omega) (by omega) (fun r b2 => kt_177 hA (nx hA))
    · refine kt_ssz (by omega) (by omega) (fun r => ?_)
      obtain ⟨sz', so, sa⟩ : ∃ sz' : Nat → Nat, (∀ v, v ≠ a → sz' v = sz v) ∧ sz' a = b := ⟨fun x => if x = a then b else sz x, fun x hx => if_neg hx, if_pos rfl⟩
      have h1 : ∀ v, v < 17 → upd a1 a (nI b) v = nI (sz' v) ∧ sz' v ≤ 255 := by
        intro v hv
        by_cases e : v = a
        · rw [e, pk_us, sa]
          exact ⟨rfl, by omega⟩
        · rw [pk_un e, so v e]
          exact hA.1 v hv
      have h2 : sz' 16 = 0 := by
        rw [so 16 (by omega)]
        exact hA.2.1
      have e7 : nI a &&& 7 = nI (a % 8) := pk_andN (m := 7) (n := a) (by omega) 3 (by decide)
      refine nm_r (e' := 8 * nI (a % 8)) (by rw [e7]) (pk_le 8 a (fun c => ?_) (fun c => ?_))
      · obtain ⟨t, rfl⟩ : ∃ t, a = t + 8 := ⟨a - 8, by omega⟩
        rw [show (t + 8) % 8 = t by omega]
        have A' : kt_A lo _ sz' (upd a1 (t + 8) (nI b)) := ⟨h1, h2, kt_Z_hi (a := t) hA.2.2 (by omega) (by omega) so sa⟩
        refine nm_e ?_
        unfold wL_law_162
        exact kt_177 A' (nx A')
      · rw [show a % 8 = a by omega]
        have A' : kt_A _ hi sz' (upd a1 a (nI b)) := ⟨h1, h2, kt_Z_lo hA.2.2 (by omega) (by omega) so sa⟩
        refine nm_e ?_
        unfold wL_law_162
        exact kt_177 A' (nx A')
    · unfold wL_law_78
      exact kt_srt (by omega) (fun r c0 => kt_177 hA (nx hA))
    · unfold wL_law_78
      exact kt_srt (by omega) (fun r c0 => kt_177 hA (nx hA))
theorem i_vc (xs : Nat → Int32) (L : Nat) (hL : L ≤ 260) : wpL_law (fun r => r = 1) L xs := by
  unfold wpL_law
  refine ⟨19, 326, by omega, by omega, ?_⟩
  unfold wpX_init
  (try dsimp only)
  refine ⟨by omega, by omega, by omega, by omega, by omega, by omega, by omega, by omega, by omega, by omega, by omega, by omega, by omega, by omega, by omega, by omega, by omega, by omega, by omega, by omega, by omega, by omega, by omega, by omega, by omega, by omega, by omega, by omega, by omega, by omega, by omega, by omega, by omega, by omega, by omega, by omega, by omega, by omega, ?_⟩
  exact ⟨_, kt_law16 hL 261 0 0 0 (fun _ => 0) _ _ _ _ _ _ _ _ _ _ _ _ _ _ _ _ _ _ _ _ _ _ (by omega) (by omega) ⟨fun v _ => ⟨rfl, Nat.zero_le 255⟩, rfl, kt_Z_0⟩⟩
end
end
