section
/-- the sum of f below n -/
def dt_sm (f : Nat → Nat) : Nat → Nat
  | 0 => 0
  | n + 1 => dt_sm f n + f n
theorem dt_sm_c {f g : Nat → Nat} {n : Nat} (h : ∀ i, i < n → f i = g i) : dt_sm f n = dt_sm g n := by
  induction n with
  | zero => rfl
  | succ n ih =>
    show dt_sm f n + f n = dt_sm g n + g n
    rw [ih (fun i hi => h i (by omega)), h n (by omega)]
theorem dt_sm_u {f g : Nat → Nat} {n k : Nat} (hk : k < n) (h : ∀ i, i < n → i ≠ k → g i = f i) : dt_sm g n + f k = dt_sm f n + g k := by
  induction n with
  | zero => exact absurd hk (by omega)
  | succ n ih =>
    show dt_sm g n + g n + f k = dt_sm f n + f n + g k
    by_cases e : k = n
    · subst e
      rw [dt_sm_c (fun i hi => h i (by omega) (by omega))]
      omega
    · have t := ih (by omega) (fun i hi hne => h i (by omega) hne)
      have t2 := h n (by omega) (by omega)
      omega
theorem dt_sm_ge {f : Nat → Nat} {n k : Nat} (hk : k < n) : f k ≤ dt_sm f n := by
  induction n with
  | zero => exact absurd hk (by omega)
  | succ n ih =>
    show f k ≤ dt_sm f n + f n
    by_cases e : k = n
    · subst e; omega
    · have := ih (by omega); omega
theorem dt_sm_0 {f : Nat → Nat} {n : Nat} (h : ∀ i, i < n → f i = 0) : dt_sm f n = 0 := by
  induction n with
  | zero => rfl
  | succ n ih =>
    show dt_sm f n + f n = 0
    rw [ih (fun i hi => h i (by omega)), h n (by omega)]
theorem dt_sm_pos {f : Nat → Nat} {n : Nat} (h : 0 < dt_sm f n) : ∃ i, i < n ∧ 0 < f i := by
  induction n with
  | zero => exact absurd h (by show ¬ 0 < 0; omega)
  | succ n ih =>
    have h' : 0 < dt_sm f n + f n := h
    by_cases e : 0 < f n
    · exact ⟨n, by omega, e⟩
    · obtain ⟨i, hi, h2⟩ := ih (by omega)
      exact ⟨i, by omega, h2⟩
theorem dt_sm_le {f g : Nat → Nat} {n : Nat} (h : ∀ i, i < n → f i ≤ g i) : dt_sm f n ≤ dt_sm g n := by
  induction n with
  | zero => exact Nat.le_refl 0
  | succ n ih =>
    show dt_sm f n + f n ≤ dt_sm g n + g n
    have := ih (fun i hi => h i (by omega))
    have := h n (by omega)
    omega
theorem dt_sm_add (f g : Nat → Nat) (n : Nat) : dt_sm (fun i => f i + g i) n = dt_sm f n + dt_sm g n := by
  induction n with
  | zero => rfl
  | succ n ih =>
    show dt_sm (fun i => f i + g i) n + (f n + g n) = dt_sm f n + f n + (dt_sm g n + g n)
    omega
theorem dt_sm_1 (n : Nat) : dt_sm (fun _ => 1) n = n := by
  induction n with
  | zero => rfl
  | succ n ih =>
    show dt_sm (fun _ => 1) n + 1 = n + 1
    omega
theorem dt_sm_sw (F : Nat → Nat → Nat) (m n : Nat) : dt_sm (fun i => dt_sm (fun j => F i j) n) m = dt_sm (fun j => dt_sm (fun i => F i j) m) n := by
  induction m with
  | zero => exact (dt_sm_0 (fun i _ => rfl)).symm
  | succ m ih =>
    show dt_sm (fun i => dt_sm (fun j => F i j) n) m + dt_sm (fun j => F m j) n = dt_sm (fun j => dt_sm (fun i => F i j) m + F m j) n
    rw [dt_sm_add (fun j => dt_sm (fun i => F i j) m) (fun j => F m j), ih]
theorem dt_sm_b {f : Nat → Nat} {n : Nat} (h : ∀ i, i < n → f i ≤ 1) : dt_sm f n ≤ n := by
  have := dt_sm_le (g := fun _ => 1) h
  rw [dt_sm_1] at this
  exact this
theorem dt_sm_lt {f : Nat → Nat} {n k : Nat} (h : ∀ i, i < n → f i ≤ 1) (hk : k < n) (h0 : f k = 0) : dt_sm f n < n := by
  have t := dt_sm_u (f := f) (g := fun i => if i = k then 1 else f i) hk (fun i _ hne => if_neg hne)
  have t2 : dt_sm (fun i => if i = k then 1 else f i) n ≤ n := dt_sm_b (fun i hi => by
    by_cases e : i = k
    · simp [e]
    · simp only [if_neg e]; exact h i hi)
  simp only [if_true] at t
  omega
theorem dt_m1 {n : Nat} (h : n < 2 ^ 31) : ¬ (-1 : Int32) = nI n := by
  intro e
  have : nI n < 0 := by rw [← e]; decide
  exact nI_pos h this
theorem dt_m1' {n : Nat} (h : n < 2 ^ 31) : ¬ nI n = (-1 : Int32) := fun e => dt_m1 h e.symm
theorem dt_hit (x : Int32) (N : Nat) (hN : N < 2 ^ 31) : dt_sm (fun o => if x = nI o then 1 else 0) N ≤ 1 := by
  induction N with
  | zero => exact Nat.zero_le 1
  | succ N ih =>
    show dt_sm (fun o => if x = nI o then 1 else 0) N + (if x = nI N then 1 else 0) ≤ 1
    by_cases e : x = nI N
    · rw [if_pos e, dt_sm_0 (fun i hi => if_neg (fun e2 => ?_))]
      · omega
      · have := (nI_eq (a := i) (b := N) (by omega) (by omega)).mp (e2.symm.trans e)
        omega
    · rw [if_neg e]
      have := ih (by omega)
      omega
theorem dt_hit0 (N : Nat) (hN : N < 2 ^ 31) : dt_sm (fun o => if (-1 : Int32) = nI o then 1 else 0) N = 0 :=
  dt_sm_0 (fun i hi => if_neg (dt_m1 (by omega)))
/-- how many of the first M places of a hold o -/
def dt_cn (a : Nat → Int32) (M : Nat) (o : Nat) : Nat := dt_sm (fun j => if a j = nI o then 1 else 0) M
theorem dt_cn_u {a : Nat → Int32} {M k o : Nat} {x : Int32} (hk : k < M) : dt_cn (upd a k x) M o + (if a k = nI o then 1 else 0) = dt_cn a M o + (if x = nI o then 1 else 0) := by
  have t := dt_sm_u (f := fun j => if a j = nI o then 1 else 0) (g := fun j => if upd a k x j = nI o then 1 else 0) hk (fun i _ hne => by simp only [pk_un hne])
  simp only [pk_us] at t
  exact t
theorem dt_cn_add {a : Nat → Int32} {M k o o' : Nat} (hk : k < M) (ha : a k = -1) (ho : o < 100) (ho' : o' < 100) : dt_cn (upd a k (nI o)) M o' = dt_cn a M o' + (if o' = o then 1 else 0) := by
  have t := dt_cn_u (a := a) (o := o') (x := nI o) hk
  rw [ha, if_neg (dt_m1 (by omega))] at t
  by_cases e : o' = o
  · subst e
    simp only [if_true] at t ⊢
    omega
  · rw [if_neg e]
    rw [if_neg (fun h => e ((nI_eq (by omega) (by omega)).mp h).symm)] at t
    omega
theorem dt_cn_sub {a : Nat → Int32} {M k o o' : Nat} (hk : k < M) (ha : a k = nI o) (ho : o < 100) (ho' : o' < 100) : dt_cn (upd a k (-1)) M o' + (if o' = o then 1 else 0) = dt_cn a M o' := by
  have t := dt_cn_u (a := a) (o := o') (x := -1) hk
  rw [ha, if_neg (dt_m1 (n := o') (by omega))] at t
  by_cases e : o' = o
  · subst e
    simp only [if_true] at t ⊢
    omega
  · rw [if_neg e]
    rw [if_neg (fun h => e ((nI_eq (by omega) (by omega)).mp h).symm)] at t
    omega
theorem dt_cn_pos {a : Nat → Int32} {M k o : Nat} (hk : k < M) (ha : a k = nI o) : 0 < dt_cn a M o := by
  have t := dt_sm_ge (f := fun j => if a j = nI o then 1 else 0) hk
  simp only [if_pos ha] at t
  exact t
theorem dt_cn_ex {a : Nat → Int32} {M o : Nat} (h : 0 < dt_cn a M o) : ∃ k, k < M ∧ a k = nI o := by
  obtain ⟨k, hk, h2⟩ := dt_sm_pos h
  refine ⟨k, hk, ?_⟩
  by_cases e : a k = nI o
  · exact e
  · simp only [if_neg e] at h2
    omega
theorem dt_cn_le (a : Nat → Int32) (M o : Nat) : dt_cn a M o ≤ M := dt_sm_b (fun i _ => by
  by_cases e : a i = nI o
  · simp only [if_pos e]; omega
  · simp only [if_neg e]; omega)
theorem dt_cn_0 {a : Nat → Int32} {M o : Nat} (ho : o < 100) (h : ∀ j, j < M → a j = -1) : dt_cn a M o = 0 :=
  dt_sm_0 (fun j hj => by rw [h j hj]; exact if_neg (dt_m1 (by omega)))
/-- all counts together: at most one for each place that is not free -/
theorem dt_tot {a : Nat → Int32} {M N : Nat} (hN : N < 100) : dt_sm (fun o => dt_cn a M o) N ≤ dt_sm (fun j => if a j = -1 then 0 else 1) M := by
  have t : dt_sm (fun o => dt_cn a M o) N = dt_sm (fun j => dt_sm (fun o => if a j = nI o then 1 else 0) N) M := dt_sm_sw (fun o j => if a j = nI o then 1 else 0) N M
  rw [t]
  refine dt_sm_le (fun j hj => ?_)
  by_cases e : a j = -1
  · simp only [if_pos e, e]
    exact Nat.le_of_eq (dt_hit0 N (by omega))
  · simp only [if_neg e]
    exact dt_hit (a j) N (by omega)
theorem dt_fr1 (a : Nat → Int32) (j : Nat) : (if a j = -1 then 0 else 1) ≤ 1 := by
  by_cases e : a j = -1
  · rw [if_pos e]; omega
  · rw [if_neg e]; omega
/-- a free place leaves a number below M that no place holds -/
theorem dt_free {a : Nat → Int32} {M k : Nat} (hM : M < 100) (hk : k < M) (ha : a k = -1) : ∃ o, o < M ∧ dt_cn a M o = 0 := by
  have t := dt_tot (a := a) (M := M) (N := M) hM
  have t2 : dt_sm (fun j => if a j = -1 then 0 else 1) M < M := dt_sm_lt (fun i _ => dt_fr1 a i) hk (if_pos ha)
  refine Classical.byContradiction (fun hn => ?_)
  have t3 : dt_sm (fun _ => 1) M ≤ dt_sm (fun o => dt_cn a M o) M := dt_sm_le (fun o ho => by
    rcases Nat.eq_zero_or_pos (dt_cn a M o) with z | z
    · exact absurd ⟨o, ho, z⟩ hn
    · exact z)
  rw [dt_sm_1] at t3
  omega
/-- more numbers than places: one of them no place holds -/
theorem dt_free2 {a : Nat → Int32} {M N : Nat} (hN : N < 100) (hM : M < N) : ∃ o, o < N ∧ dt_cn a M o = 0 := by
  have t := dt_tot (a := a) (M := M) (N := N) hN
  have t2 : dt_sm (fun j => if a j = -1 then 0 else 1) M ≤ M := dt_sm_b (fun i _ => dt_fr1 a i)
  refine Classical.byContradiction (fun hn => ?_)
  have t3 : dt_sm (fun _ => 1) N ≤ dt_sm (fun o => dt_cn a M o) N := dt_sm_le (fun o ho => by
    rcases Nat.eq_zero_or_pos (dt_cn a M o) with z | z
    · exact absurd ⟨o, ho, z⟩ hn
    · exact z)
  rw [dt_sm_1] at t3
  omega
end
section
/-- the two bits at place j of the packed word -/
def dt_g (w : Int64) (j : Nat) : Nat := (w.toBitVec.getLsbD (2 * j)).toNat + 2 * (w.toBitVec.getLsbD (2 * j + 1)).toNat
theorem dt_c : ∀ k, k < 64 → ((nI k).toInt64 &&& 63) = lN k := by decide +kernel
theorem dt_s : ∀ k, k < 64 → ((lN k).toBitVec.smod 64).toNat = k := by decide +kernel
theorem dt_ix {p d : Nat} : (6 * nI p) + nI d = nI (6 * p + d) := by
  rw [show (6 : Int32) = nI 6 from rfl, pk_mul, nI_add]
theorem dt_ix2 {p d : Nat} : 2 * ((6 * nI p) + nI d) = nI (2 * (6 * p + d)) := by
  rw [dt_ix, show (2 : Int32) = nI 2 from rfl, pk_mul]
theorem dt_mod4 (n : Nat) : n % 2 ^ 2 = (n.testBit 0).toNat + 2 * (n.testBit 1).toNat := by
  rw [Nat.toNat_testBit, Nat.toNat_testBit]
  omega
theorem dt_get_e (w : Int64) {p d : Nat} (hp : p < 4) (hd : d < 6) : ((w >>> ((2 * ((6 * nI p) + nI d)).toInt64 &&& 63)).toInt32) &&& 3 = nI (dt_g w (6 * p + d)) := by
  rw [dt_ix2, dt_c _ (by omega)]
  have hb : ∀ i, i < 2 → ((w >>> lN (2 * (6 * p + d))).toInt32).toBitVec.getLsbD i = w.toBitVec.getLsbD (2 * (6 * p + d) + i) := by
    intro i hi
    show ((w.toBitVec.sshiftRight' ((lN (2 * (6 * p + d))).toBitVec.smod 64)).signExtend 32).getLsbD i = _
    rw [BitVec.getLsbD_signExtend, BitVec.getLsbD_sshiftRight', dt_s _ (by omega)]
    simp [show i < 32 by omega, show i < 64 by omega, show 2 * (6 * p + d) + i < 64 by omega]
  rw [pk_and _ 2 (m := 3) (by decide)]
  refine congrArg nI ?_
  rw [dt_mod4]
  show (((w >>> lN (2 * (6 * p + d))).toInt32).toBitVec.getLsbD 0).toNat + 2 * (((w >>> lN (2 * (6 * p + d))).toInt32).toBitVec.getLsbD 1).toNat = _
  rw [hb 0 (by omega), hb 1 (by omega)]
  rfl
theorem dt_get {post : Int32 → Prop} {w : Int64} {p d : Nat} (hp : p < 4) (hd : d < 6) (h : post (nI (dt_g w (6 * p + d)))) : wpL_get post () w (nI p) (nI d) := by
  unfold wpL_get
  rw [dt_get_e w hp hd]
  exact h
/-- the word with k put at the two bits behind s -/
def dt_pt (w : Int64) (s k : Nat) : Int64 := (w &&& (((3 : Int64) <<< lN s) ^^^ (-1))) ||| (lN k <<< lN s)
/-- the word with the twelve bits behind s struck out -/
def dt_cl (w : Int64) (s : Nat) : Int64 := w &&& (((4095 : Int64) <<< lN s) ^^^ (-1))
theorem dt_put {post : Int64 → Prop} {w : Int64} {p d k : Nat} (hp : p < 4) (hd : d < 6) (hk : k < 4) (h : post (dt_pt w (2 * (6 * p + d)) k)) : wpL_put post () w (nI p) (nI d) (nI k) := by
  unfold wpL_put
  refine nm_r dt_ix2 ?_
  rw [dt_c _ (by omega), nI_l (by omega)]
  exact h
theorem dt_shl (x : Int64) {s i : Nat} (hs : s < 64) (hi : i < 64) : (x <<< lN s).toBitVec.getLsbD i = (decide (s ≤ i) && x.toBitVec.getLsbD (i - s)) := by
  show (x.toBitVec <<< ((lN s).toBitVec.smod 64)).getLsbD i = _
  rw [BitVec.getLsbD_shiftLeft', dt_s s hs]
  by_cases e : s ≤ i
  · simp [hi, e, show ¬ i < s by omega]
  · simp [hi, e, show i < s by omega]
theorem dt_3 : ∀ m, m < 64 → (3 : Int64).toBitVec.getLsbD m = decide (m < 2) := by decide +kernel
theorem dt_4095 : ∀ m, m < 64 → (4095 : Int64).toBitVec.getLsbD m = decide (m < 12) := by decide +kernel
theorem dt_n1 : ∀ m, m < 64 → (-1 : Int64).toBitVec.getLsbD m = true := by decide +kernel
theorem dt_kb : ∀ k, k < 4 → ∀ m, m < 64 → (lN k).toBitVec.getLsbD m = (decide (m < 2) && (lN k).toBitVec.getLsbD m) := by decide +kernel
theorem dt_k0 : ∀ k, k < 4 → ((lN k).toBitVec.getLsbD 0).toNat + 2 * ((lN k).toBitVec.getLsbD 1).toNat = k := by decide +kernel
theorem dt_pt_b (w : Int64) {s k i : Nat} (hs : s < 64) (hi : i < 64) : (dt_pt w s k).toBitVec.getLsbD i = ((w.toBitVec.getLsbD i && !(decide (s ≤ i) && decide (i - s < 2))) || (decide (s ≤ i) && (lN k).toBitVec.getLsbD (i - s))) := by
  show ((w.toBitVec &&& ((((3 : Int64) <<< lN s).toBitVec) ^^^ (-1 : Int64).toBitVec)) ||| (lN k <<< lN s).toBitVec).getLsbD i = _
  rw [BitVec.getLsbD_or, BitVec.getLsbD_and, BitVec.getLsbD_xor, dt_shl _ hs hi, dt_shl _ hs hi, dt_n1 i hi, dt_3 _ (by omega), Bool.xor_true]
theorem dt_cl_b (w : Int64) {s i : Nat} (hs : s < 64) (hi : i < 64) : (dt_cl w s).toBitVec.getLsbD i = (w.toBitVec.getLsbD i && !(decide (s ≤ i) && decide (i - s < 12))) := by
  show (w.toBitVec &&& ((((4095 : Int64) <<< lN s).toBitVec) ^^^ (-1 : Int64).toBitVec)).getLsbD i = _
  rw [BitVec.getLsbD_and, BitVec.getLsbD_xor, dt_shl _ hs hi, dt_n1 i hi, dt_4095 _ (by omega), Bool.xor_true]
theorem dt_g_same (w : Int64) {j k : Nat} (hj : j < 24) (hk : k < 4) : dt_g (dt_pt w (2 * j) k) j = k := by
  unfold dt_g
  rw [dt_pt_b w (by omega) (by omega), dt_pt_b w (by omega) (by omega)]
  have e : 2 * j + 1 - 2 * j = 1 := by omega
  simp only [Nat.sub_self, e, Nat.le_refl, Nat.le_add_right, decide_true, Bool.true_and, show (0 < 2) = True from by simp, show (1 < 2) = True from by simp, Bool.not_true, Bool.and_false, Bool.false_or]
  exact dt_k0 k hk
theorem dt_g_other (w : Int64) {i j k : Nat} (hj : j < 24) (hi : i < 24) (hk : k < 4) (hne : i ≠ j) : dt_g (dt_pt w (2 * j) k) i = dt_g w i := by
  have hb : ∀ m, m < 48 → (m < 2 * j ∨ 2 * j + 2 ≤ m) → (dt_pt w (2 * j) k).toBitVec.getLsbD m = w.toBitVec.getLsbD m := by
    intro m hm ho
    rw [dt_pt_b w (by omega) (by omega)]
    rcases ho with ho | ho
    · simp [show ¬ 2 * j ≤ m by omega]
    · rw [dt_kb k hk (m - 2 * j) (by omega)]
      simp [show 2 * j ≤ m by omega, show ¬ m - 2 * j < 2 by omega]
  unfold dt_g
  rw [hb (2 * i) (by omega) (by omega), hb (2 * i + 1) (by omega) (by omega)]
theorem dt_g_cl (w : Int64) {i p : Nat} (hp : p < 4) (hi : i < 24) : dt_g (dt_cl w (12 * p)) i = if 6 * p ≤ i ∧ i < 6 * p + 6 then 0 else dt_g w i := by
  unfold dt_g
  rw [dt_cl_b w (by omega) (by omega), dt_cl_b w (by omega) (by omega)]
  by_cases e : 6 * p ≤ i ∧ i < 6 * p + 6
  · rw [if_pos e]
    simp [show 12 * p ≤ 2 * i by omega, show 12 * p ≤ 2 * i + 1 by omega, show 2 * i - 12 * p < 12 by omega, show 2 * i + 1 - 12 * p < 12 by omega]
  · rw [if_neg e]
    by_cases h : 6 * p ≤ i
    · simp [show 12 * p ≤ 2 * i by omega, show 12 * p ≤ 2 * i + 1 by omega, show ¬ 2 * i - 12 * p < 12 by omega, show ¬ 2 * i + 1 - 12 * p < 12 by omega]
    · simp [show ¬ 12 * p ≤ 2 * i by omega, show ¬ 12 * p ≤ 2 * i + 1 by omega]
theorem dt_cl_e {w : Int64} {p : Nat} (hp : p < 4) : w &&& (((4095 : Int64) <<< ((12 * nI p).toInt64 &&& 63)) ^^^ (-1)) = dt_cl w (12 * p) := by
  rw [show (12 : Int32) = nI 12 from rfl, pk_mul, dt_c _ (by omega)]
  rfl
theorem dt_g_0 (i : Nat) : dt_g 0 i = 0 := by
  have h : ∀ m, (0 : Int64).toBitVec.getLsbD m = false := fun m => by
    show (0#64).getLsbD m = false
    exact BitVec.getLsbD_zero
  unfold dt_g
  rw [h, h]
  rfl
theorem dt_g_lt (w : Int64) (i : Nat) : dt_g w i < 4 := by
  unfold dt_g
  have := Bool.toNat_le (w.toBitVec.getLsbD (2 * i))
  have := Bool.toNat_le (w.toBitVec.getLsbD (2 * i + 1))
  omega
end
section
/-- how many openings, files and pipes are there -/
def dt_O (a3 : Nat → Int32) : Nat := dt_sm (fun o => if a3 o ≤ 0 then 0 else 1) 24
def dt_F (a8 : Nat → Int32) : Nat := dt_sm (fun f => if a8 f ≤ 0 then 0 else 1) 28
def dt_P (a11 a12 : Nat → Int32) : Nat := dt_sm (fun p => if a11 p = 0 ∧ a12 p = 0 then 0 else 1) 24
theorem dt_ac0 {f : Nat → Nat} {i : Nat} (h : f i = 0) : nI (dt_sm f i) + 0 = nI (dt_sm f (i + 1)) := by
  show nI (dt_sm f i) + nI 0 = nI (dt_sm f i + f i)
  rw [h, nI_add]
theorem dt_ac1 {f : Nat → Nat} {i : Nat} (h : f i = 1) : nI (dt_sm f i) + 1 = nI (dt_sm f (i + 1)) := by
  show nI (dt_sm f i) + nI 1 = nI (dt_sm f i + f i)
  rw [h, nI_add]
section
variable {lv : Int32} {a1 a2 a3 a4 a5 a6 a7 a8 a9 a10 a11 a12 a13 a14 a15 : Nat → Int32}
theorem dt_c77 {post : Int32 → Prop} {x1 x2 : Int32} (h : post (((100 * x1) + (10 * x2)) + nI (dt_P a11 a12))) : ∃ n, wX_counts_77 post x1 x2 lv a1 a2 a3 a4 a5 a6 a7 a8 a9 a10 a11 a12 a13 a14 a15 n 0 0 :=
  pk_loop (σ := Unit) (fun n i _ => wX_counts_77 post x1 x2 lv a1 a2 a3 a4 a5 a6 a7 a8 a9 a10 a11 a12 a13 a14 a15 n (nI (dt_sm (fun p => if a11 p = 0 ∧ a12 p = 0 then 0 else 1) i)) (nI i)) (fun _ _ => True) 24 0 () (by omega) trivial
    (fun n _ _ => pk_le 24 24 (fun _ => h) (fun z => absurd z (by omega)))
    (fun n i _ hi _ hw => pk_le 24 i (fun z => absurd z (by omega)) (fun _ => ⟨pk_in i 24 hi, by
      have t := hw () trivial
      rw [nI_clamp (show i < 2 ^ 31 by omega)]
      exact br_c (fun g => ⟨pk_in i 24 hi, br_c (fun g2 => nm_r (dt_ac0 (if_pos ⟨g, g2⟩)) (nm_r (nI_1 i) t)) (fun g2 => nm_r (dt_ac1 (if_neg (fun z => g2 z.2))) (nm_r (nI_1 i) t))⟩) (fun g => nm_r (dt_ac1 (if_neg (fun z => g z.1))) (nm_r (nI_1 i) t))⟩))
theorem dt_c43 {post : Int32 → Prop} {x1 : Int32} (h : post (((100 * x1) + (10 * nI (dt_F a8))) + nI (dt_P a11 a12))) : ∃ n, wX_counts_43 post x1 0 lv a1 a2 a3 a4 a5 a6 a7 a8 a9 a10 a11 a12 a13 a14 a15 n 0 0 :=
  pk_loop (σ := Unit) (fun n i _ => wX_counts_43 post x1 0 lv a1 a2 a3 a4 a5 a6 a7 a8 a9 a10 a11 a12 a13 a14 a15 n (nI (dt_sm (fun f => if a8 f ≤ 0 then 0 else 1) i)) (nI i)) (fun _ _ => True) 28 0 () (by omega) trivial
    (fun n _ _ => pk_le 28 28 (fun _ => dt_c77 h) (fun z => absurd z (by omega)))
    (fun n i _ hi _ hw => pk_le 28 i (fun z => absurd z (by omega)) (fun _ => ⟨pk_in i 28 hi, by
      have t := hw () trivial
      rw [nI_clamp (show i < 2 ^ 31 by omega)]
      exact br_c (fun g => nm_r (dt_ac0 (if_pos g)) (nm_r (nI_1 i) t)) (fun g => nm_r (dt_ac1 (if_neg g)) (nm_r (nI_1 i) t))⟩))
theorem dt_c9 {post : Int32 → Prop} (h : post (((100 * nI (dt_O a3)) + (10 * nI (dt_F a8))) + nI (dt_P a11 a12))) : ∃ n, wX_counts_9 post 0 0 lv a1 a2 a3 a4 a5 a6 a7 a8 a9 a10 a11 a12 a13 a14 a15 n 0 0 :=
  pk_loop (σ := Unit) (fun n i _ => wX_counts_9 post 0 0 lv a1 a2 a3 a4 a5 a6 a7 a8 a9 a10 a11 a12 a13 a14 a15 n (nI (dt_sm (fun o => if a3 o ≤ 0 then 0 else 1) i)) (nI i)) (fun _ _ => True) 24 0 () (by omega) trivial
    (fun n _ _ => pk_le 24 24 (fun _ => dt_c43 h) (fun z => absurd z (by omega)))
    (fun n i _ hi _ hw => pk_le 24 i (fun z => absurd z (by omega)) (fun _ => ⟨pk_in i 24 hi, by
      have t := hw () trivial
      rw [nI_clamp (show i < 2 ^ 31 by omega)]
      exact br_c (fun g => nm_r (dt_ac0 (if_pos g)) (nm_r (nI_1 i) t)) (fun g => nm_r (dt_ac1 (if_neg g)) (nm_r (nI_1 i) t))⟩))
theorem dt_counts {post : Int32 → Prop} (h : post (nI (100 * dt_O a3 + 10 * dt_F a8 + dt_P a11 a12))) : wpX_counts post (lv, a1, a2, a3, a4, a5, a6, a7, a8, a9, a10, a11, a12, a13, a14, a15) := by
  unfold wpX_counts
  refine dt_c9 ?_
  rw [show (100 : Int32) = nI 100 from rfl, show (10 : Int32) = nI 10 from rfl, pk_mul, pk_mul, nI_add, nI_add]
  exact h
theorem dt_isAlive {post : Int32 → Prop} {p : Nat} (hp : p < 4) (h0 : a1 p = 0 → post 0) (h1 : ¬ a1 p = 0 → post 1) : wpX_isAlive post (lv, a1, a2, a3, a4, a5, a6, a7, a8, a9, a10, a11, a12, a13, a14, a15) (nI p) := by
  unfold wpX_isAlive
  refine br_f (nI_pos (by omega)) (pk_lt 3 p (fun z => absurd z (by omega)) (fun _ => ⟨pk_in p 4 hp, ?_⟩))
  rw [nI_clamp (show p < 2 ^ 31 by omega)]
  exact br_c h0 h1
theorem dt_isName {post : Int32 → Prop} {n : Nat} (hn : n < 4) (h : post 1) : wpX_isName post () (nI n) := by
  unfold wpX_isName
  exact br_f (nI_pos (by omega)) (pk_lt 3 n (fun z => absurd z (by omega)) (fun _ => h))
theorem dt_openingOf {post : Int32 → Prop} {p d : Nat} (hp : p < 4) (hd : d < 6) (hA : a1 p = 0 → a2 (6 * p + d) = -1) (h : post (a2 (6 * p + d))) : wpX_openingOf post (lv, a1, a2, a3, a4, a5, a6, a7, a8, a9, a10, a11, a12, a13, a14, a15) (nI p) (nI d) := by
  unfold wpX_openingOf
  refine dt_isAlive hp (fun z => br_t rfl ?_) (fun z => br_f (by decide) (br_f (nI_pos (by omega)) (pk_le d 5 (fun _ => ⟨pk_in (6 * p + d) 24 (by omega) dt_ix, ?_⟩) (fun z => absurd z (by omega)))))
  · rw [hA z] at h
    exact h
  · rw [dt_ix, nI_clamp (show 6 * p + d < 2 ^ 31 by omega)]
    exact h
theorem dt_freeD {post : Int32 → Prop} {p d0 : Nat} (hp : p < 4) (hd : d0 ≤ 6) (h1 : ∀ d, d0 ≤ d → d < 6 → ¬ 0 ≤ a2 (6 * p + d) → post (nI d)) (h2 : post (-1)) : wpX_freeDescriptor post (lv, a1, a2, a3, a4, a5, a6, a7, a8, a9, a10, a11, a12, a13, a14, a15) (nI p) (nI d0) := by
  unfold wpX_freeDescriptor
  exact pk_loop (σ := Unit) (fun n i _ => wX_freeDescriptor_2 post (nI p) lv a1 a2 a3 a4 a5 a6 a7 a8 a9 a10 a11 a12 a13 a14 a15 n (nI i)) (fun i _ => d0 ≤ i) 6 d0 () hd (Nat.le_refl _)
    (fun n _ _ => pk_le 6 6 (fun _ => h2) (fun z => absurd z (by omega)))
    (fun n i _ hi hI hw => pk_le 6 i (fun z => absurd z (by omega)) (fun _ => ⟨pk_in (6 * p + i) 24 (by omega) dt_ix, by
      rw [dt_ix, nI_clamp (show 6 * p + i < 2 ^ 31 by omega)]
      exact br_c (fun _ => nm_r (nI_1 i) (hw () (Nat.le_succ_of_le hI))) (fun g => h1 i hI hi g)⟩))
/-- a scan from above for a place that holds 0 -/
theorem dt_scan {N : Nat} (a : Nat → Int32) (W : Nat → Int32 → Int32 → Prop) (hN : N < 100) (hN0 : 0 < N) (hex : ∃ o, o < N ∧ a o = 0)
    (hx : ∀ n s, s < N → a s = 0 → W (n + 1) (nI s) (-1))
    (hs : ∀ n i s, i < N → s < N → (a i = 0 → W n (nI i) (nI i + (-1))) → (¬ a i = 0 → W n (nI s) (nI i + (-1))) → W (n + 1) (nI s) (nI i)) : ∃ n, W n (nI 0) (nI N + (-1)) := by
  have h0 : ∀ (n s : Nat), (0 ≤ N ∧ s < N ∧ (a s = 0 ∨ ∀ o, 0 ≤ o → o < N → ¬ a o = 0)) → W (n + 1) (nI s) (nI 0 + (-1)) := by
    intro n s hI
    obtain ⟨_, hs, ho⟩ := hI
    have h0 : a s = 0 := by
      rcases ho with ho | ho
      · exact ho
      · obtain ⟨o, h1, h2⟩ := hex
        exact absurd h2 (ho o (Nat.zero_le _) h1)
    rw [show nI 0 + (-1) = -1 by decide]
    exact hx n s hs h0
  have h1 : ∀ (n i s : Nat), (i + 1 ≤ N ∧ s < N ∧ (a s = 0 ∨ ∀ o, i + 1 ≤ o → o < N → ¬ a o = 0)) → (∀ s', (i ≤ N ∧ s' < N ∧ (a s' = 0 ∨ ∀ o, i ≤ o → o < N → ¬ a o = 0)) → W n (nI s') (nI i + (-1))) → W (n + 1) (nI s) (nI (i + 1) + (-1)) := by
    intro n i s hI hw
    obtain ⟨hi, hs', ho⟩ := hI
    rw [pk_m1]
    refine hs n i s (by omega) hs' (fun g => hw i ⟨by omega, by omega, Or.inl g⟩) (fun g => hw s ⟨by omega, hs', ?_⟩)
    rcases ho with ho | ho
    · exact Or.inl ho
    · refine Or.inr (fun o h1 h2 => ?_)
      by_cases e : o = i
      · rw [e]; exact g
      · exact ho o (by omega) h2
  exact ⟨N + 1, pk_loopD (σ := Nat) (fun n i s => W n (nI s) (nI i + (-1))) (fun i s => i ≤ N ∧ s < N ∧ (a s = 0 ∨ ∀ o, i ≤ o → o < N → ¬ a o = 0)) h0 h1 N 0 ⟨Nat.le_refl N, hN0, Or.inr (fun o h1 h2 => absurd h1 (by omega))⟩⟩
theorem dt_newO {post : Int32 → St1 → Prop} {x1 x2 : Int32} (hex : ∃ o, o < 24 ∧ a3 o = 0) (h : ∀ o, o < 24 → a3 o = 0 → post (nI o) (lv, a1, a2, upd a3 o 1, upd a4 o x1, upd a5 o x2, upd a6 o 0, a7, a8, a9, a10, a11, a12, a13, a14, a15)) : wpX_newOpening post (lv, a1, a2, a3, a4, a5, a6, a7, a8, a9, a10, a11, a12, a13, a14, a15) x1 x2 := by
  unfold wpX_newOpening
  have t := dt_scan (N := 24) a3 (wX_newOpening_6 post x1 x2 lv a1 a2 a3 a4 a5 a6 a7 a8 a9 a10 a11 a12 a13 a14 a15) (by omega) (by omega) hex
    (fun n s hs h0 => br_t (by decide) ⟨pk_in s 24 hs, by
      rw [nI_clamp (show s < 2 ^ 31 by omega)]
      exact nm_e ⟨pk_in s 24 hs, nm_e ⟨pk_in s 24 hs, nm_e ⟨pk_in s 24 hs, nm_e (h s hs h0)⟩⟩⟩⟩)
    (fun n i s hi _ A B => br_f (nI_pos (by omega)) ⟨pk_in i 24 hi, by
      rw [nI_clamp (show i < 2 ^ 31 by omega)]
      exact br_c (fun g => nm_e (A g)) (fun g => nm_e (B g))⟩)
  rw [show nI 24 + (-1) = nI 23 from pk_m1 23] at t
  exact t
theorem dt_freeF {post : Int32 → Prop} (hex : ∃ f, f < 28 ∧ a8 f = 0) (h : ∀ f, f < 28 → a8 f = 0 → post (nI f)) : wpX_freeFile post (lv, a1, a2, a3, a4, a5, a6, a7, a8, a9, a10, a11, a12, a13, a14, a15) := by
  unfold wpX_freeFile
  have t := dt_scan (N := 28) a8 (wX_freeFile_5 post lv a1 a2 a3 a4 a5 a6 a7 a8 a9 a10 a11 a12 a13 a14 a15) (by omega) (by omega) hex
    (fun n s hs h0 => br_t (by decide) (h s hs h0))
    (fun n i s hi _ A B => br_f (nI_pos (by omega)) ⟨pk_in i 28 hi, by
      rw [nI_clamp (show i < 2 ^ 31 by omega)]
      exact br_c (fun g => nm_e (A g)) (fun g => nm_e (B g))⟩)
  rw [show nI 28 + (-1) = nI 27 from pk_m1 27] at t
  exact t
theorem dt_freeP {post : Int32 → Prop} (h1 : a11 0 = 0) (h2 : a12 0 = 0) (h : post 0) : wpX_freePipe post (lv, a1, a2, a3, a4, a5, a6, a7, a8, a9, a10, a11, a12, a13, a14, a15) := by
  unfold wpX_freePipe
  have hx : ∀ (n : Nat) (s : Int32), (0 ≤ 24 ∧ (0 = 0 → s = 0)) → wX_freePipe_5 post lv a1 a2 a3 a4 a5 a6 a7 a8 a9 a10 a11 a12 a13 a14 a15 (n + 1) s (nI 0 + (-1)) := by
    intro n s hI
    rw [hI.2 rfl]
    exact br_t (by decide) h
  have hs : ∀ (n i : Nat) (s : Int32), (i + 1 ≤ 24 ∧ (i + 1 = 0 → s = 0)) → (∀ s', (i ≤ 24 ∧ (i = 0 → s' = 0)) → wX_freePipe_5 post lv a1 a2 a3 a4 a5 a6 a7 a8 a9 a10 a11 a12 a13 a14 a15 n s' (nI i + (-1))) → wX_freePipe_5 post lv a1 a2 a3 a4 a5 a6 a7 a8 a9 a10 a11 a12 a13 a14 a15 (n + 1) s (nI (i + 1) + (-1)) := by
    intro n i s hI hw
    have hi := hI.1
    rw [pk_m1]
    refine br_f (nI_pos (by omega)) ⟨pk_in i 24 (by omega), ?_⟩
    rw [nI_clamp (show i < 2 ^ 31 by omega)]
    refine br_c (fun g => ⟨pk_in i 24 (by omega), br_c (fun g2 => nm_e (hw _ ⟨by omega, fun z => by rw [z]; rfl⟩)) (fun g2 => nm_e (hw _ ⟨by omega, fun z => ?_⟩))⟩) (fun g => nm_e (hw _ ⟨by omega, fun z => ?_⟩))
    · rw [z] at g2
      exact absurd h2 g2
    · rw [z] at g
      exact absurd h1 g
  have t : wX_freePipe_5 post lv a1 a2 a3 a4 a5 a6 a7 a8 a9 a10 a11 a12 a13 a14 a15 25 0 (nI 24 + (-1)) := pk_loopD (σ := Int32) (fun n i s => wX_freePipe_5 post lv a1 a2 a3 a4 a5 a6 a7 a8 a9 a10 a11 a12 a13 a14 a15 n s (nI i + (-1))) (fun i s => i ≤ 24 ∧ (i = 0 → s = 0)) hx hs 24 0 ⟨by omega, fun z => absurd z (by omega)⟩
  rw [show nI 24 + (-1) = nI 23 from pk_m1 23] at t
  exact ⟨25, t⟩
theorem dt_letGo {post : St1 → Prop} {o : Nat} (ho : o < 24) (hf : a4 o = 1 → ∃ f, f < 28 ∧ a5 o = nI f) (hp : ¬ a4 o = 1 → a5 o = 0)
    (h1 : ¬ a3 o - 1 ≤ 0 → post (lv, a1, a2, upd a3 o (a3 o - 1), a4, a5, a6, a7, a8, a9, a10, a11, a12, a13, a14, a15))
    (h2 : a3 o - 1 ≤ 0 → a4 o = 1 → ∀ f, f < 28 → a5 o = nI f → post (lv, a1, a2, upd a3 o (a3 o - 1), a4, a5, a6, a7, upd a8 f (a8 f - 1), a9, a10, a11, a12, a13, a14, a15))
    (h3 : a3 o - 1 ≤ 0 → a4 o = 2 → post (lv, a1, a2, upd a3 o (a3 o - 1), a4, a5, a6, a7, a8, a9, a10, upd a11 0 0, a12, a13, a14, a15))
    (h4 : a3 o - 1 ≤ 0 → ¬ a4 o = 1 → ¬ a4 o = 2 → post (lv, a1, a2, upd a3 o (a3 o - 1), a4, a5, a6, a7, a8, a9, a10, a11, upd a12 0 0, a13, a14, a15)) : wpX_letGo post (lv, a1, a2, a3, a4, a5, a6, a7, a8, a9, a10, a11, a12, a13, a14, a15) (nI o) := by
  unfold wpX_letGo
  refine ⟨pk_in o 24 ho, pk_in o 24 ho, ?_⟩
  rw [nI_clamp (show o < 2 ^ 31 by omega)]
  refine nm_e ⟨pk_in o 24 ho, ?_⟩
  rw [pk_us]
  refine br_c (fun g => ⟨pk_in o 24 ho, br_c (fun g1 => ⟨pk_in o 24 ho, ?_⟩) (fun g1 => ⟨pk_in o 24 ho, br_c (fun g2 => ⟨pk_in o 24 ho, ?_⟩) (fun g2 => ⟨pk_in o 24 ho, ?_⟩)⟩)⟩) h1
  · obtain ⟨f, hf1, hf2⟩ := hf g1
    have t := h2 g g1 f hf1 hf2
    rw [hf2, nI_clamp (show f < 2 ^ 31 by omega)]
    exact ⟨pk_in f 28 hf1, pk_in f 28 hf1, nm_e t⟩
  · rw [hp g1]
    exact ⟨pk_in 0 24 (by omega), nm_e (h3 g g2)⟩
  · rw [hp g1]
    exact ⟨pk_in 0 24 (by omega), nm_e (h4 g g1 g2)⟩
end
end
section
def dt_A (lv : Int32) (a1 a2 : Nat → Int32) : Prop := lv = nI (dt_sm (fun p => if a1 p = 0 then 0 else 1) 4) ∧ ∀ p, p < 4 → a1 p = 0 → ∀ d, d < 6 → a2 (6 * p + d) = -1
def dt_B (a : Nat → Int32) (M N : Nat) : Prop := ∀ j, j < M → a j = -1 ∨ ∃ o, o < N ∧ a j = nI o
def dt_C (us : Nat → Nat) (a3 : Nat → Int32) : Prop := ∀ o, o < 24 → a3 o = nI (us o)
def dt_D (us : Nat → Nat) (a4 a5 a6 a7 : Nat → Int32) : Prop := ∀ o, o < 24 → 0 < us o → (a4 o = 1 ∧ (∃ f, f < 28 ∧ a5 o = nI f ∧ 0 < dt_cn a7 4 f) ∧ ∃ k, k ≤ 8 ∧ a6 o = nI k) ∨ ((a4 o = 2 ∨ a4 o = 3) ∧ a5 o = 0)
def dt_E (us : Nat → Nat) (a4 : Nat → Int32) : Prop := ∀ o o', o < 24 → o' < 24 → 0 < us o → 0 < us o' → a4 o = a4 o' → ¬ a4 o = 1 → o = o'
def dt_R (us : Nat → Nat) (a4 : Nat → Int32) (s : Int32) : Prop := ∃ o, o < 24 ∧ 0 < us o ∧ a4 o = s
def dt_Fl (us : Nat → Nat) (a4 a11 a12 : Nat → Int32) : Prop := (¬ a11 0 = 0 ↔ dt_R us a4 2) ∧ (¬ a12 0 = 0 ↔ dt_R us a4 3) ∧ ∀ p, 0 < p → p < 24 → a11 p = 0 ∧ a12 p = 0
def dt_fo (us : Nat → Nat) (a4 a5 : Nat → Int32) (f : Nat) : Nat := dt_sm (fun o => if 0 < us o ∧ a4 o = 1 ∧ a5 o = nI f then 1 else 0) 24
def dt_H (us : Nat → Nat) (a4 a5 a7 a8 : Nat → Int32) : Prop := ∀ f, f < 28 → a8 f = nI (dt_cn a7 4 f + dt_fo us a4 a5 f)
def dt_L (a9 : Nat → Int32) : Prop := ∀ f, f < 28 → ∃ l, l ≤ 8 ∧ a9 f = nI l
def dt_J (lv : Int32) (a1 a2 a3 a4 a5 a6 a7 a9 : Nat → Int32) : Prop := dt_A lv a1 a2 ∧ dt_B a2 24 24 ∧ dt_C (dt_cn a2 24) a3 ∧ dt_D (dt_cn a2 24) a4 a5 a6 a7 ∧ dt_E (dt_cn a2 24) a4 ∧ dt_B a7 4 28 ∧ dt_L a9
def dt_I (lv : Int32) (a1 a2 a3 a4 a5 a6 a7 a8 a9 a11 a12 : Nat → Int32) : Prop := dt_J lv a1 a2 a3 a4 a5 a6 a7 a9 ∧ dt_Fl (dt_cn a2 24) a4 a11 a12 ∧ dt_H (dt_cn a2 24) a4 a5 a7 a8
/-! the used openings alone count -/
theorem dt_D_m {us us' : Nat → Nat} {a4 a5 a6 a7 : Nat → Int32} (h : ∀ o, o < 24 → 0 < us' o → 0 < us o) (D : dt_D us a4 a5 a6 a7) : dt_D us' a4 a5 a6 a7 := fun o ho hu => D o ho (h o ho hu)
theorem dt_E_m {us us' : Nat → Nat} {a4 : Nat → Int32} (h : ∀ o, o < 24 → 0 < us' o → 0 < us o) (E : dt_E us a4) : dt_E us' a4 := fun o o' ho ho' hu hu' => E o o' ho ho' (h o ho hu) (h o' ho' hu')
theorem dt_R_c {us us' : Nat → Nat} {a4 : Nat → Int32} {s : Int32} (h : ∀ o, o < 24 → (0 < us' o ↔ 0 < us o)) : dt_R us' a4 s ↔ dt_R us a4 s :=
  ⟨fun ⟨o, ho, hu, e⟩ => ⟨o, ho, (h o ho).mp hu, e⟩, fun ⟨o, ho, hu, e⟩ => ⟨o, ho, (h o ho).mpr hu, e⟩⟩
theorem dt_fo_c {us us' : Nat → Nat} {a4 a5 : Nat → Int32} {f : Nat} (h : ∀ o, o < 24 → (0 < us' o ↔ 0 < us o)) : dt_fo us' a4 a5 f = dt_fo us a4 a5 f :=
  dt_sm_c (fun o ho => by
    by_cases e : 0 < us o ∧ a4 o = 1 ∧ a5 o = nI f
    · rw [if_pos e, if_pos ⟨(h o ho).mpr e.1, e.2⟩]
    · rw [if_neg e, if_neg (fun z => e ⟨(h o ho).mp z.1, z.2⟩)])
theorem dt_Fl_c {us us' : Nat → Nat} {a4 a11 a12 : Nat → Int32} (h : ∀ o, o < 24 → (0 < us' o ↔ 0 < us o)) (F : dt_Fl us a4 a11 a12) : dt_Fl us' a4 a11 a12 :=
  ⟨F.1.trans (dt_R_c h).symm, F.2.1.trans (dt_R_c h).symm, F.2.2⟩
theorem dt_H_c {us us' : Nat → Nat} {a4 a5 a7 a8 : Nat → Int32} (h : ∀ o, o < 24 → (0 < us' o ↔ 0 < us o)) (H : dt_H us a4 a5 a7 a8) : dt_H us' a4 a5 a7 a8 := fun f hf => by rw [dt_fo_c h]; exact H f hf
theorem dt_B_u {a : Nat → Int32} {M N k : Nat} {x : Int32} (B : dt_B a M N) (hx : x = -1 ∨ ∃ o, o < N ∧ x = nI o) : dt_B (upd a k x) M N := by
  intro j hj
  by_cases e : j = k
  · rw [e, pk_us]; exact hx
  · rw [pk_un e]; exact B j hj
theorem dt_fo_le (us : Nat → Nat) (a4 a5 : Nat → Int32) (f : Nat) : dt_fo us a4 a5 f ≤ 24 := dt_sm_b (fun o _ => by
  by_cases e : 0 < us o ∧ a4 o = 1 ∧ a5 o = nI f
  · simp only [if_pos e]; omega
  · simp only [if_neg e]; omega)
/-- an opening that goes away -/
theorem dt_fo_gone {us us' : Nat → Nat} {a4 a5 : Nat → Int32} {o f : Nat} (ho : o < 24) (h : ∀ i, i < 24 → i ≠ o → us' i = us i) (h0 : us' o = 0) (h1 : 0 < us o) : dt_fo us' a4 a5 f + (if a4 o = 1 ∧ a5 o = nI f then 1 else 0) = dt_fo us a4 a5 f := by
  have t := dt_sm_u (n := 24) (k := o) (f := fun i => if 0 < us i ∧ a4 i = 1 ∧ a5 i = nI f then 1 else 0) (g := fun i => if 0 < us' i ∧ a4 i = 1 ∧ a5 i = nI f then 1 else 0) ho (fun i hi hne => by simp only [h i hi hne])
  have e0 : (if 0 < us' o ∧ a4 o = 1 ∧ a5 o = nI f then 1 else 0) = 0 := if_neg (fun z => by have := z.1; omega)
  have e1 : (if 0 < us o ∧ a4 o = 1 ∧ a5 o = nI f then 1 else 0) = (if a4 o = 1 ∧ a5 o = nI f then 1 else 0) := by
    by_cases e : a4 o = 1 ∧ a5 o = nI f
    · rw [if_pos e, if_pos ⟨h1, e⟩]
    · rw [if_neg e, if_neg (fun z => e z.2)]
  simp only [e0, e1] at t
  exact t
/-- an opening that is made -/
theorem dt_fo_new {us us' : Nat → Nat} {a4 a5 : Nat → Int32} {s t : Int32} {o f : Nat} (ho : o < 24) (h : ∀ i, i < 24 → i ≠ o → us' i = us i) (h0 : us o = 0) (h1 : 0 < us' o) : dt_fo us' (upd a4 o s) (upd a5 o t) f = dt_fo us a4 a5 f + (if s = 1 ∧ t = nI f then 1 else 0) := by
  have tt := dt_sm_u (n := 24) (k := o) (f := fun i => if 0 < us i ∧ a4 i = 1 ∧ a5 i = nI f then 1 else 0) (g := fun i => if 0 < us' i ∧ upd a4 o s i = 1 ∧ upd a5 o t i = nI f then 1 else 0) ho (fun i hi hne => by simp only [h i hi hne, pk_un hne])
  have e0 : (if 0 < us o ∧ a4 o = 1 ∧ a5 o = nI f then 1 else 0) = 0 := if_neg (fun z => by have := z.1; omega)
  have e1 : (if 0 < us' o ∧ upd a4 o s o = 1 ∧ upd a5 o t o = nI f then 1 else 0) = (if s = 1 ∧ t = nI f then 1 else 0) := by
    rw [pk_us, pk_us]
    by_cases e : s = 1 ∧ t = nI f
    · rw [if_pos e, if_pos ⟨h1, e⟩]
    · rw [if_neg e, if_neg (fun z => e z.2)]
  simp only [e0, e1] at tt
  exact tt
theorem dt_D_new {us us' : Nat → Nat} {a4 a5 a6 a7 : Nat → Int32} {s t : Int32} {o : Nat} (h : ∀ i, i < 24 → i ≠ o → us' i = us i) (D : dt_D us a4 a5 a6 a7) (hs : (s = 1 ∧ ∃ f, f < 28 ∧ t = nI f ∧ 0 < dt_cn a7 4 f) ∨ ((s = 2 ∨ s = 3) ∧ t = 0)) : dt_D us' (upd a4 o s) (upd a5 o t) (upd a6 o 0) a7 := by
  intro i hi hu
  by_cases e : i = o
  · rw [e, pk_us, pk_us, pk_us]
    rcases hs with hs | hs
    · exact Or.inl ⟨hs.1, hs.2, 0, by omega, rfl⟩
    · exact Or.inr hs
  · rw [pk_un e, pk_un e, pk_un e]
    exact D i hi (by rw [← h i hi e]; exact hu)
theorem dt_E_new {us us' : Nat → Nat} {a4 : Nat → Int32} {s : Int32} {o : Nat} (h : ∀ i, i < 24 → i ≠ o → us' i = us i) (E : dt_E us a4) (hs : s = 1 ∨ ¬ dt_R us a4 s) : dt_E us' (upd a4 o s) := by
  intro i i' hi hi' hu hu' e1 e2
  by_cases e : i = o
  · by_cases e' : i' = o
    · omega
    · rw [e, pk_us, pk_un e'] at e1
      rw [e, pk_us] at e2
      rcases hs with hs | hs
      · exact absurd hs e2
      · exact absurd ⟨i', hi', by rw [← h i' hi' e']; exact hu', e1.symm⟩ hs
  · rw [pk_un e] at e1 e2
    by_cases e' : i' = o
    · rw [e', pk_us] at e1
      rcases hs with hs | hs
      · exact absurd (e1.trans hs) e2
      · exact absurd ⟨i, hi, by rw [← h i hi e]; exact hu, e1⟩ hs
    · rw [pk_un e'] at e1
      exact E i i' hi hi' (by rw [← h i hi e]; exact hu) (by rw [← h i' hi' e']; exact hu') e1 e2
theorem dt_R_new {us us' : Nat → Nat} {a4 : Nat → Int32} {s s' : Int32} {o : Nat} (ho : o < 24) (h : ∀ i, i < 24 → i ≠ o → us' i = us i) (h0 : us o = 0) (h1 : 0 < us' o) : dt_R us' (upd a4 o s) s' ↔ (dt_R us a4 s' ∨ s = s') := by
  constructor
  · intro ⟨i, hi, hu, e⟩
    by_cases e' : i = o
    · rw [e', pk_us] at e
      exact Or.inr e
    · rw [pk_un e'] at e
      exact Or.inl ⟨i, hi, by rw [← h i hi e']; exact hu, e⟩
  · intro z
    rcases z with ⟨i, hi, hu, e⟩ | e
    · have e' : i ≠ o := fun z => by rw [z] at hu; omega
      exact ⟨i, hi, by rw [h i hi e']; exact hu, by rw [pk_un e']; exact e⟩
    · exact ⟨o, ho, h1, by rw [pk_us]; exact e⟩
/-! the counts of descriptors -/
theorem dt_us_add {a2 : Nat → Int32} {j o : Nat} (hj : j < 24) (ho : o < 24) (ha : a2 j = -1) : (∀ i, i < 24 → i ≠ o → dt_cn (upd a2 j (nI o)) 24 i = dt_cn a2 24 i) ∧ dt_cn (upd a2 j (nI o)) 24 o = dt_cn a2 24 o + 1 := by
  constructor
  · intro i hi hne
    rw [dt_cn_add hj ha (by omega) (by omega), if_neg hne]
    omega
  · rw [dt_cn_add hj ha (by omega) (by omega), if_pos rfl]
theorem dt_us_sub {a2 : Nat → Int32} {j o : Nat} (hj : j < 24) (ho : o < 24) (ha : a2 j = nI o) : (∀ i, i < 24 → i ≠ o → dt_cn (upd a2 j (-1)) 24 i = dt_cn a2 24 i) ∧ dt_cn (upd a2 j (-1)) 24 o + 1 = dt_cn a2 24 o := by
  constructor
  · intro i hi hne
    have t := dt_cn_sub hj ha (by omega) (show i < 100 by omega)
    rw [if_neg hne] at t
    omega
  · have t := dt_cn_sub hj ha (by omega) (show o < 100 by omega)
    rw [if_pos rfl] at t
    exact t
theorem dt_C_u {us us' : Nat → Nat} {a3 : Nat → Int32} {o : Nat} {x : Int32} (C : dt_C us a3) (h : ∀ i, i < 24 → i ≠ o → us' i = us i) (hx : x = nI (us' o)) : dt_C us' (upd a3 o x) := by
  intro i hi
  by_cases e : i = o
  · rw [e, pk_us]; exact hx
  · rw [pk_un e, h i hi e]; exact C i hi
theorem dt_A_set {lv : Int32} {a1 a2 : Nat → Int32} {p d : Nat} {x : Int32} (A : dt_A lv a1 a2) (hp : p < 4) (hd : d < 6) (hx : a1 p = 0 → x = -1) : dt_A lv a1 (upd a2 (6 * p + d) x) := by
  refine ⟨A.1, fun q hq h0 e he => ?_⟩
  by_cases z : 6 * q + e = 6 * p + d
  · rw [z, pk_us]
    exact hx (by rw [show p = q by omega]; exact h0)
  · rw [pk_un z]
    exact A.2 q hq h0 e he
/-- every place is a descriptor of a process -/
theorem dt_pd {j : Nat} (hj : j < 24) : ∃ p d, p < 4 ∧ d < 6 ∧ j = 6 * p + d := ⟨j / 6, j % 6, by omega, by omega, by omega⟩
section
variable {lv : Int32} {a1 a2 a3 a4 a5 a6 a7 a8 a9 a10 a11 a12 a13 a14 a15 : Nat → Int32}
/-- one more descriptor leads to an opening that is used -/
theorem dt_ref {p d o : Nat} (I : dt_I lv a1 a2 a3 a4 a5 a6 a7 a8 a9 a11 a12) (hp : p < 4) (hd : d < 6) (ho : o < 24) (hl : ¬ a1 p = 0) (hj : a2 (6 * p + d) = -1) (hu : 0 < dt_cn a2 24 o) : dt_I lv a1 (upd a2 (6 * p + d) (nI o)) (upd a3 o (a3 o + 1)) a4 a5 a6 a7 a8 a9 a11 a12 := by
  obtain ⟨⟨A, B, C, D, E, G, Le⟩, F, H⟩ := I
  obtain ⟨u1, u2⟩ := dt_us_add (show 6 * p + d < 24 by omega) ho hj
  have hc : ∀ i, i < 24 → (0 < dt_cn (upd a2 (6 * p + d) (nI o)) 24 i ↔ 0 < dt_cn a2 24 i) := by
    intro i hi
    by_cases e : i = o
    · rw [e, u2]; omega
    · rw [u1 i hi e]
  refine ⟨⟨dt_A_set A hp hd (fun z => absurd z hl), dt_B_u B (Or.inr ⟨o, ho, rfl⟩), dt_C_u C u1 ?_, dt_D_m (fun i hi h => (hc i hi).mp h) D, dt_E_m (fun i hi h => (hc i hi).mp h) E, G, Le⟩, dt_Fl_c hc F, dt_H_c hc H⟩
  rw [u2, C o ho, nI_1]
/-- one descriptor less -/
theorem dt_drop {post : St1 → Prop} {p d o : Nat} (I : dt_I lv a1 a2 a3 a4 a5 a6 a7 a8 a9 a11 a12) (hp : p < 4) (hd : d < 6) (ho : o < 24) (hj : a2 (6 * p + d) = nI o)
    (h : ∀ b3 b8 b11 b12, dt_I lv a1 (upd a2 (6 * p + d) (-1)) b3 a4 a5 a6 a7 b8 a9 b11 b12 → post (lv, a1, upd a2 (6 * p + d) (-1), b3, a4, a5, a6, a7, b8, a9, a10, b11, b12, a13, a14, a15)) : wpX_letGo post (lv, a1, upd a2 (6 * p + d) (-1), a3, a4, a5, a6, a7, a8, a9, a10, a11, a12, a13, a14, a15) (nI o) := by
  obtain ⟨⟨A, B, C, D, E, G, Le⟩, F, H⟩ := I
  have hj24 : 6 * p + d < 24 := by omega
  obtain ⟨u1, u2⟩ := dt_us_sub hj24 ho hj
  have hle := dt_cn_le a2 24 o
  have hu : 0 < dt_cn a2 24 o := by omega
  have hm : ∀ i, i < 24 → 0 < dt_cn (upd a2 (6 * p + d) (-1)) 24 i → 0 < dt_cn a2 24 i := by
    intro i hi hz
    by_cases e : i = o
    · rw [e]; exact hu
    · rw [← u1 i hi e]; exact hz
  have hx : a3 o - 1 = nI (dt_cn (upd a2 (6 * p + d) (-1)) 24 o) := by rw [C o ho, ← u2, nI_pred]
  have J' : dt_J lv a1 (upd a2 (6 * p + d) (-1)) (upd a3 o (a3 o - 1)) a4 a5 a6 a7 a9 :=
    ⟨dt_A_set A hp hd (fun _ => rfl), dt_B_u B (Or.inl rfl), dt_C_u C u1 hx, dt_D_m hm D, dt_E_m hm E, G, Le⟩
  have Do := D o ho hu
  have ne12 : ¬ (1 : Int32) = 2 := by decide
  have ne13 : ¬ (1 : Int32) = 3 := by decide
  have ne23 : ¬ (2 : Int32) = 3 := by decide
  have hz : a3 o - 1 ≤ 0 → dt_cn (upd a2 (6 * p + d) (-1)) 24 o = 0 := by
    intro g
    rw [hx] at g
    exact Nat.le_zero.mp ((nI_leI (a := dt_cn (upd a2 (6 * p + d) (-1)) 24 o) (b := 0) (by omega) (by omega)).mp g)
  have hR : ∀ s : Int32, dt_cn (upd a2 (6 * p + d) (-1)) 24 o = 0 → ¬ a4 o = s → (dt_R (dt_cn (upd a2 (6 * p + d) (-1)) 24) a4 s ↔ dt_R (dt_cn a2 24) a4 s) := by
    intro s z0 hs
    constructor
    · exact fun ⟨i, hi, hui, e⟩ => ⟨i, hi, hm i hi hui, e⟩
    · intro ⟨i, hi, hui, e⟩
      have hne : i ≠ o := fun z => hs (by rw [← z]; exact e)
      exact ⟨i, hi, by rw [u1 i hi hne]; exact hui, e⟩
  have hN : dt_cn (upd a2 (6 * p + d) (-1)) 24 o = 0 → ¬ a4 o = 1 → ¬ dt_R (dt_cn (upd a2 (6 * p + d) (-1)) 24) a4 (a4 o) := by
    intro z0 hs ⟨i, hi, hui, e⟩
    have hi' := E i o hi ho (hm i hi hui) hu e (by rw [e]; exact hs)
    rw [hi'] at hui
    omega
  have hH : dt_cn (upd a2 (6 * p + d) (-1)) 24 o = 0 → ¬ a4 o = 1 → dt_H (dt_cn (upd a2 (6 * p + d) (-1)) 24) a4 a5 a7 a8 := by
    intro z0 hs f hf
    have t := dt_fo_gone (a4 := a4) (a5 := a5) (f := f) ho u1 z0 hu
    rw [if_neg (fun z => hs z.1)] at t
    rw [H f hf, ← t]
    rfl
  refine dt_letGo ho ?_ ?_ ?_ ?_ ?_ ?_
  · intro e
    rcases Do with ⟨_, ⟨f, h1, h2, _⟩, _⟩ | ⟨e', _⟩
    · exact ⟨f, h1, h2⟩
    · rcases e' with e' | e'
      · exact absurd (e.symm.trans e') ne12
      · exact absurd (e.symm.trans e') ne13
  · intro e
    rcases Do with ⟨e', _⟩ | ⟨_, e'⟩
    · exact absurd e' e
    · exact e'
  · intro g
    have hz' : 0 < dt_cn (upd a2 (6 * p + d) (-1)) 24 o := by
      rcases Nat.eq_zero_or_pos (dt_cn (upd a2 (6 * p + d) (-1)) 24 o) with z | z
      · rw [hx, z] at g
        exact absurd (show nI 0 ≤ 0 by decide) g
      · exact z
    have hc : ∀ i, i < 24 → (0 < dt_cn (upd a2 (6 * p + d) (-1)) 24 i ↔ 0 < dt_cn a2 24 i) := by
      intro i hi
      by_cases e : i = o
      · rw [e]; exact ⟨fun _ => hu, fun _ => hz'⟩
      · rw [u1 i hi e]
    exact h _ _ _ _ ⟨J', dt_Fl_c hc F, dt_H_c hc H⟩
  · intro g g1 f hf e5
    have z0 := hz g
    refine h _ _ _ _ ⟨J', ⟨F.1.trans (hR 2 z0 (by rw [g1]; exact ne12)).symm, F.2.1.trans (hR 3 z0 (by rw [g1]; exact ne13)).symm, F.2.2⟩, ?_⟩
    intro f' hf'
    have t := dt_fo_gone (a4 := a4) (a5 := a5) (f := f') ho u1 z0 hu
    by_cases e : f' = f
    · rw [e] at t ⊢
      rw [if_pos ⟨g1, e5⟩] at t
      rw [pk_us, H f hf, ← t, ← Nat.add_assoc, nI_pred]
    · rw [if_neg (fun z => e ((nI_eq (by omega) (by omega)).mp (z.2.symm.trans e5)))] at t
      rw [pk_un e, H f' hf', ← t]
      rfl
  · intro g g2
    have z0 := hz g
    have n1 : ¬ a4 o = 1 := by rw [g2]; decide
    have n3 : ¬ a4 o = 3 := by rw [g2]; decide
    have hn := hN z0 n1
    rw [g2] at hn
    refine h _ _ _ _ ⟨J', ⟨?_, F.2.1.trans (hR 3 z0 n3).symm, ?_⟩, hH z0 n1⟩
    · rw [pk_us]
      exact ⟨fun z => absurd rfl z, fun z => absurd z hn⟩
    · intro q h1 h2
      rw [pk_un (show q ≠ 0 by omega)]
      exact F.2.2 q h1 h2
  · intro g n1 n2
    have z0 := hz g
    have e3 : a4 o = 3 := by
      rcases Do with ⟨e', _⟩ | ⟨e' | e', _⟩
      · exact absurd e' n1
      · exact absurd e' n2
      · exact e'
    have hn := hN z0 n1
    rw [e3] at hn
    refine h _ _ _ _ ⟨J', ⟨F.1.trans (hR 2 z0 n2).symm, ?_, ?_⟩, hH z0 n1⟩
    · rw [pk_us]
      exact ⟨fun z => absurd rfl z, fun z => absurd z hn⟩
    · intro q h1 h2
      rw [pk_un (show q ≠ 0 by omega)]
      exact F.2.2 q h1 h2
/-- an opening is made behind a free descriptor -/
theorem dt_newJ {p d o : Nat} {s t : Int32} (J : dt_J lv a1 a2 a3 a4 a5 a6 a7 a9) (hp : p < 4) (hd : d < 6) (hl : ¬ a1 p = 0) (hj : a2 (6 * p + d) = -1) (ho : o < 24) (h0 : dt_cn a2 24 o = 0)
    (hs : (s = 1 ∧ ∃ f, f < 28 ∧ t = nI f ∧ 0 < dt_cn a7 4 f) ∨ ((s = 2 ∨ s = 3) ∧ t = 0)) (hR : s = 1 ∨ ¬ dt_R (dt_cn a2 24) a4 s) :
    dt_J lv a1 (upd a2 (6 * p + d) (nI o)) (upd a3 o 1) (upd a4 o s) (upd a5 o t) (upd a6 o 0) a7 a9 := by
  obtain ⟨A, B, C, D, E, G, Le⟩ := J
  obtain ⟨u1, u2⟩ := dt_us_add (show 6 * p + d < 24 by omega) ho hj
  refine ⟨dt_A_set A hp hd (fun z => absurd z hl), dt_B_u B (Or.inr ⟨o, ho, rfl⟩), dt_C_u C u1 ?_, dt_D_new u1 D hs, dt_E_new u1 E hR, G, Le⟩
  rw [u2, h0]
  rfl
theorem dt_exO {p d : Nat} (J : dt_J lv a1 a2 a3 a4 a5 a6 a7 a9) (hp : p < 4) (hd : d < 6) (hj : a2 (6 * p + d) = -1) : ∃ o, o < 24 ∧ a3 o = 0 := by
  obtain ⟨o, ho, h0⟩ := dt_free (a := a2) (M := 24) (k := 6 * p + d) (by omega) (by omega) hj
  exact ⟨o, ho, by rw [J.2.2.1 o ho, h0]; rfl⟩
theorem dt_zeroO {o : Nat} (J : dt_J lv a1 a2 a3 a4 a5 a6 a7 a9) (ho : o < 24) (h : a3 o = 0) : dt_cn a2 24 o = 0 := by
  have t := J.2.2.1 o ho
  rw [h] at t
  have := dt_cn_le a2 24 o
  exact ((nI_eq (a := 0) (b := dt_cn a2 24 o) (by omega) (by omega)).mp t).symm
/-- a file is made for a name -/
theorem dt_mkF {n f : Nat} (I : dt_I lv a1 a2 a3 a4 a5 a6 a7 a8 a9 a11 a12) (hn : n < 4) (hn1 : a7 n = -1) (hf : f < 28) (h0 : a8 f = 0) : dt_I lv a1 a2 a3 a4 a5 a6 (upd a7 n (nI f)) (upd a8 f 1) (upd a9 f 0) a11 a12 := by
  obtain ⟨⟨A, B, C, D, E, G, Le⟩, F, H⟩ := I
  have hle := dt_cn_le a7 4 f
  have hle2 := dt_fo_le (dt_cn a2 24) a4 a5 f
  have hz : dt_cn a7 4 f + dt_fo (dt_cn a2 24) a4 a5 f = 0 := by
    have t := H f hf
    rw [h0] at t
    exact ((nI_eq (a := 0) (b := dt_cn a7 4 f + dt_fo (dt_cn a2 24) a4 a5 f) (by omega) (by omega)).mp t).symm
  refine ⟨⟨A, B, C, ?_, E, dt_B_u G (Or.inr ⟨f, hf, rfl⟩), ?_⟩, F, ?_⟩
  · intro o ho hu
    rcases D o ho hu with ⟨e1, ⟨g, hg, e2, h2⟩, h3⟩ | h
    · refine Or.inl ⟨e1, ⟨g, hg, e2, ?_⟩, h3⟩
      rw [dt_cn_add hn hn1 (by omega) (by omega)]
      omega
    · exact Or.inr h
  · intro g hg
    by_cases e : g = f
    · exact ⟨0, by omega, by rw [e, pk_us]; rfl⟩
    · rw [pk_un e]; exact Le g hg
  · intro g hg
    rw [dt_cn_add hn hn1 (by omega) (by omega)]
    by_cases e : g = f
    · rw [e, pk_us, if_pos rfl, show dt_cn a7 4 f + 1 + dt_fo (dt_cn a2 24) a4 a5 f = 1 by omega]
      rfl
    · rw [pk_un e, if_neg e]
      exact H g hg
theorem dt_exF (I : dt_I lv a1 a2 a3 a4 a5 a6 a7 a8 a9 a11 a12) : ∃ f, f < 28 ∧ a8 f = 0 := by
  obtain ⟨⟨A, B, C, D, E, G, Le⟩, F, H⟩ := I
  obtain ⟨f, hf, h0⟩ := dt_free2 (a := a7) (M := 4) (N := 28) (by omega) (by omega)
  refine ⟨f, hf, ?_⟩
  rw [H f hf, h0, show dt_fo (dt_cn a2 24) a4 a5 f = 0 from dt_sm_0 (fun o ho => if_neg (fun z => ?_))]
  · rfl
  · rcases D o ho z.1 with ⟨_, ⟨g, hg, e2, h2⟩, _⟩ | ⟨e | e, _⟩
    · have : g = f := (nI_eq (by omega) (by omega)).mp (e2.symm.trans z.2.2)
      rw [this] at h2
      omega
    · exact absurd (z.2.1.symm.trans e) (by decide)
    · exact absurd (z.2.1.symm.trans e) (by decide)
end
end
section
theorem dt_upd_id {f : Nat → Int32} {k : Nat} {x : Int32} (h : f k = x) : upd f k x = f := by
  funext j
  by_cases e : j = k
  · rw [e, pk_us, h]
  · rw [pk_un e]
theorem dt_neg {a : Nat → Int32} {M N j : Nat} (B : dt_B a M N) (hN : N < 100) (hj : j < M) (h : ¬ 0 ≤ a j) : a j = -1 := by
  rcases B j hj with e | ⟨o, ho, e⟩
  · exact e
  · rw [e] at h
    exact absurd (nI_pos' (by omega)) h
theorem dt_O_c {us us' : Nat → Nat} {a3 b3 : Nat → Int32} (C : dt_C us a3) (C' : dt_C us' b3) (hu : ∀ o, us o ≤ 24) (hu' : ∀ o, us' o ≤ 24) (h : ∀ o, o < 24 → (0 < us' o ↔ 0 < us o)) : dt_O b3 = dt_O a3 := by
  refine dt_sm_c (fun o ho => ?_)
  have e1 : a3 o ≤ 0 ↔ us o = 0 := by
    rw [C o ho]
    have := hu o
    exact (nI_leI (a := us o) (b := 0) (by omega) (by omega)).trans Nat.le_zero
  have e2 : b3 o ≤ 0 ↔ us' o = 0 := by
    rw [C' o ho]
    have := hu' o
    exact (nI_leI (a := us' o) (b := 0) (by omega) (by omega)).trans Nat.le_zero
  have hh := h o ho
  by_cases z : us o = 0
  · rw [if_pos (e1.mpr z), if_pos (e2.mpr (by omega))]
  · rw [if_neg (fun q => z (e1.mp q)), if_neg (fun q => z (by have := e2.mp q; omega))]
theorem dt_kill {lv : Int32} {a1 b2 : Nat → Int32} {p : Nat} (A : dt_A lv a1 b2) (hp : p < 4) (hl : ¬ a1 p = 0) (h : ∀ d, d < 6 → b2 (6 * p + d) = -1) : dt_A (lv - 1) (upd a1 p 0) b2 := by
  constructor
  · have t := dt_sm_u (n := 4) (k := p) (f := fun q => if a1 q = 0 then 0 else 1) (g := fun q => if upd a1 p 0 q = 0 then 0 else 1) hp (fun i _ hne => by simp only [pk_un hne])
    simp only [if_neg hl, pk_us, if_true, Nat.add_zero] at t
    rw [A.1, ← t]
    exact nI_pred _
  · intro q hq h0 d hd
    by_cases e : q = p
    · rw [e]; exact h d hd
    · rw [pk_un e] at h0
      exact A.2 q hq h0 d hd
theorem dt_born {lv : Int32} {a1 a2 : Nat → Int32} {c : Nat} (A : dt_A lv a1 a2) (hc : c < 4) (hl : a1 c = 0) : dt_A (lv + 1) (upd a1 c 1) a2 := by
  constructor
  · have t := dt_sm_u (n := 4) (k := c) (f := fun q => if a1 q = 0 then 0 else 1) (g := fun q => if upd a1 c 1 q = 0 then 0 else 1) hc (fun i _ hne => by simp only [pk_un hne])
    have e1 : (if upd a1 c 1 c = 0 then 0 else 1) = 1 := by rw [pk_us]; rfl
    simp only [if_pos hl, e1] at t
    rw [A.1, nI_1]
    exact congrArg nI (by omega)
  · intro q hq h0 d hd
    by_cases e : q = c
    · rw [e, pk_us] at h0
      exact absurd h0 (by decide)
    · rw [pk_un e] at h0
      exact A.2 q hq h0 d hd
section
variable {lv : Int32} {a1 a2 a3 a4 a5 a6 a7 a8 a9 a10 a11 a12 a13 a14 a15 : Nat → Int32}
theorem dt_close {post : Int32 → St1 → Prop} {p d : Nat} (I : dt_I lv a1 a2 a3 a4 a5 a6 a7 a8 a9 a11 a12) (hp : p < 4) (hd : d < 6)
    (h0 : a2 (6 * p + d) = -1 → post (-1) (lv, a1, a2, a3, a4, a5, a6, a7, a8, a9, a10, a11, a12, a13, a14, a15))
    (h1 : ∀ o, o < 24 → a2 (6 * p + d) = nI o → ∀ b3 b8 b11 b12, dt_I lv a1 (upd a2 (6 * p + d) (-1)) b3 a4 a5 a6 a7 b8 a9 b11 b12 → post 0 (lv, a1, upd a2 (6 * p + d) (-1), b3, a4, a5, a6, a7, b8, a9, a10, b11, b12, a13, a14, a15)) : wpX_close post (lv, a1, a2, a3, a4, a5, a6, a7, a8, a9, a10, a11, a12, a13, a14, a15) (nI p) (nI d) := by
  unfold wpX_close
  refine dt_openingOf hp hd (fun z => I.1.1.2 p hp z d hd) ?_
  rcases I.1.2.1 (6 * p + d) (by omega) with e | ⟨o, ho, e⟩
  · rw [e]
    exact br_f (by decide) (h0 e)
  · rw [e]
    refine br_t (nI_pos' (by omega)) ⟨pk_in (6 * p + d) 24 (by omega) dt_ix, ?_⟩
    rw [dt_ix, nI_clamp (show 6 * p + d < 2 ^ 31 by omega)]
    exact nm_e (dt_drop I hp hd ho e (fun b3 b8 b11 b12 I' => h1 o ho e b3 b8 b11 b12 I'))
theorem dt_exit {post : Int32 → St1 → Prop} {p : Nat} (I : dt_I lv a1 a2 a3 a4 a5 a6 a7 a8 a9 a11 a12) (hp : p < 4) (h0 : post (-1) (lv, a1, a2, a3, a4, a5, a6, a7, a8, a9, a10, a11, a12, a13, a14, a15))
    (h1 : ∀ b2 b3 b8 b11 b12, dt_I (lv - 1) (upd a1 p 0) b2 b3 a4 a5 a6 a7 b8 a9 b11 b12 → (∀ k, k < 24 → b2 k = if 6 * p ≤ k ∧ k < 6 * p + 6 then -1 else a2 k) → post 0 (lv - 1, upd a1 p 0, b2, b3, a4, a5, a6, a7, b8, a9, a10, b11, b12, a13, a14, a15)) : wpX_exit post (lv, a1, a2, a3, a4, a5, a6, a7, a8, a9, a10, a11, a12, a13, a14, a15) (nI p) := by
  unfold wpX_exit
  refine dt_isAlive hp (fun z => br_t rfl h0) (fun hl => br_f (by decide) (br_c (fun _ => h0) (fun _ => ?_)))
  refine pk_loop (σ := (Nat → Int32) × (Nat → Int32) × (Nat → Int32) × (Nat → Int32) × (Nat → Int32))
    (fun n i s => wX_exit_20 post (nI p) n (nI i) lv a1 s.1 s.2.1 a4 a5 a6 a7 s.2.2.1 a9 a10 s.2.2.2.1 s.2.2.2.2 a13 a14 a15)
    (fun i s => dt_I lv a1 s.1 s.2.1 a4 a5 a6 a7 s.2.2.1 a9 s.2.2.2.1 s.2.2.2.2 ∧ ∀ k, k < 24 → s.1 k = if 6 * p ≤ k ∧ k < 6 * p + i then -1 else a2 k)
    6 0 (a2, a3, a8, a11, a12) (by omega) ⟨I, fun k hk => (if_neg (fun z => by omega)).symm⟩ ?_ ?_
  · intro n s ⟨⟨⟨A, J⟩, FH⟩, hk⟩
    refine pk_le 6 6 (fun _ => ⟨pk_in p 4 hp, ?_⟩) (fun z => absurd z (by omega))
    rw [nI_clamp (show p < 2 ^ 31 by omega)]
    exact nm_e (nm_e (h1 s.1 s.2.1 s.2.2.1 s.2.2.2.1 s.2.2.2.2 ⟨⟨dt_kill A hp hl (fun d hd => by rw [hk (6 * p + d) (by omega)]; exact if_pos ⟨by omega, by omega⟩), J⟩, FH⟩ hk))
  · intro n i s hi ⟨I', hk⟩ hw
    refine pk_le 6 i (fun z => absurd z (by omega)) (fun _ => ⟨pk_in (6 * p + i) 24 (by omega) dt_ix, ?_⟩)
    rw [dt_ix, nI_clamp (show 6 * p + i < 2 ^ 31 by omega)]
    refine nm_e ?_
    rcases I'.1.2.1 (6 * p + i) (by omega) with e | ⟨o, ho, e⟩
    · rw [e]
      refine br_t (by decide) (nm_r (nI_1 i) (hw s ⟨I', fun k hk' => ?_⟩))
      by_cases z : k = 6 * p + i
      · rw [z, e, if_pos ⟨by omega, by omega⟩]
      · rw [hk k hk']
        by_cases y : 6 * p ≤ k ∧ k < 6 * p + i
        · rw [if_pos y, if_pos ⟨y.1, by omega⟩]
        · rw [if_neg y, if_neg (fun q => y ⟨q.1, by omega⟩)]
    · rw [e]
      refine br_f (nI_pos (by omega)) ⟨pk_in (6 * p + i) 24 (by omega), nm_e (dt_drop I' hp hi ho e (fun b3 b8 b11 b12 I2 => nm_r (nI_1 i) (hw (upd s.1 (6 * p + i) (-1), b3, b8, b11, b12) ⟨I2, fun k hk' => ?_⟩)))⟩
      show upd s.1 (6 * p + i) (-1) k = _
      by_cases z : k = 6 * p + i
      · rw [z, pk_us, if_pos ⟨by omega, by omega⟩]
      · rw [pk_un z, hk k hk']
        by_cases y : 6 * p ≤ k ∧ k < 6 * p + i
        · rw [if_pos y, if_pos ⟨y.1, by omega⟩]
        · rw [if_neg y, if_neg (fun q => y ⟨q.1, by omega⟩)]
theorem dt_fork69 {post : Int32 → St1 → Prop} {p c : Nat} (I : dt_I lv a1 a2 a3 a4 a5 a6 a7 a8 a9 a11 a12) (hp : p < 4) (hc : c < 4) (hpc : c ≠ p) (hl : ¬ a1 c = 0) (hd : ∀ d, d < 6 → a2 (6 * c + d) = -1)
    (h : ∀ b2 b3, dt_I lv a1 b2 b3 a4 a5 a6 a7 a8 a9 a11 a12 → (∀ k, k < 24 → b2 k = if 6 * c ≤ k ∧ k < 6 * c + 6 then a2 (6 * p + (k - 6 * c)) else a2 k) → (∀ o, o < 24 → (0 < dt_cn b2 24 o ↔ 0 < dt_cn a2 24 o)) → post (nI c) (lv, a1, b2, b3, a4, a5, a6, a7, a8, a9, a10, a11, a12, a13, a14, a15)) : ∃ n, wX_fork_69 post (nI p) (nI c) lv n 0 a1 a2 a3 a4 a5 a6 a7 a8 a9 a10 a11 a12 a13 a14 a15 := by
  refine pk_loop (σ := (Nat → Int32) × (Nat → Int32))
    (fun n i s => wX_fork_69 post (nI p) (nI c) lv n (nI i) a1 s.1 s.2 a4 a5 a6 a7 a8 a9 a10 a11 a12 a13 a14 a15)
    (fun i s => dt_I lv a1 s.1 s.2 a4 a5 a6 a7 a8 a9 a11 a12 ∧ (∀ k, k < 24 → s.1 k = if 6 * c ≤ k ∧ k < 6 * c + i then a2 (6 * p + (k - 6 * c)) else a2 k) ∧ ∀ o, o < 24 → (0 < dt_cn s.1 24 o ↔ 0 < dt_cn a2 24 o))
    6 0 (a2, a3) (by omega) ⟨I, fun k hk => (if_neg (fun z => by omega)).symm, fun o _ => Iff.rfl⟩ ?_ ?_
  · intro n s ⟨I', hk, hu⟩
    exact pk_le 6 6 (fun _ => h s.1 s.2 I' hk hu) (fun z => absurd z (by omega))
  · intro n i s hi ⟨I', hk, hu⟩ hw
    have ep : s.1 (6 * p + i) = a2 (6 * p + i) := by
      rw [hk (6 * p + i) (by omega)]
      exact if_neg (fun z => by omega)
    have ec : s.1 (6 * c + i) = -1 := by
      rw [hk (6 * c + i) (by omega), if_neg (fun z => by omega)]
      exact hd i hi
    have hk2 : ∀ k, k < 24 → upd s.1 (6 * c + i) (s.1 (6 * p + i)) k = if 6 * c ≤ k ∧ k < 6 * c + (i + 1) then a2 (6 * p + (k - 6 * c)) else a2 k := by
      intro k hk'
      by_cases z : k = 6 * c + i
      · rw [z, pk_us, if_pos ⟨by omega, by omega⟩, ep, show 6 * c + i - 6 * c = i by omega]
      · rw [pk_un z, hk k hk']
        by_cases y : 6 * c ≤ k ∧ k < 6 * c + i
        · rw [if_pos y, if_pos ⟨y.1, by omega⟩]
        · rw [if_neg y, if_neg (fun q => y ⟨q.1, by omega⟩)]
    refine pk_le 6 i (fun z => absurd z (by omega)) (fun _ => ⟨pk_in (6 * p + i) 24 (by omega) dt_ix, ?_⟩)
    rw [dt_ix, nI_clamp (show 6 * p + i < 2 ^ 31 by omega)]
    refine nm_e ⟨pk_in (6 * c + i) 24 (by omega) dt_ix, ?_⟩
    rw [dt_ix, nI_clamp (show 6 * c + i < 2 ^ 31 by omega)]
    refine nm_e ?_
    rcases I'.1.2.1 (6 * p + i) (by omega) with e | ⟨o, ho, e⟩
    · have e3 : upd s.1 (6 * c + i) (-1) = s.1 := dt_upd_id ec
      rw [e] at hk2 ⊢
      rw [e3] at hk2 ⊢
      exact br_t (by decide) (nm_r (nI_1 i) (hw s ⟨I', hk2, hu⟩))
    · rw [e] at hk2 ⊢
      have hup : 0 < dt_cn s.1 24 o := dt_cn_pos (k := 6 * p + i) (by omega) e
      refine br_f (nI_pos (by omega)) ⟨pk_in o 24 ho, pk_in o 24 ho, ?_⟩
      rw [nI_clamp (show o < 2 ^ 31 by omega)]
      refine nm_e (nm_r (nI_1 i) (hw (upd s.1 (6 * c + i) (nI o), upd s.2 o (s.2 o + 1)) ⟨dt_ref I' hc hi ho hl ec hup, hk2, fun o' ho' => ?_⟩))
      obtain ⟨u1, u2⟩ := dt_us_add (show 6 * c + i < 24 by omega) ho ec
      show 0 < dt_cn (upd s.1 (6 * c + i) (nI o)) 24 o' ↔ _
      rw [← hu o' ho']
      by_cases z : o' = o
      · rw [z, u2]
        exact ⟨fun _ => hup, fun _ => by omega⟩
      · rw [u1 o' ho' z]
theorem dt_fork {post : Int32 → St1 → Prop} {p : Nat} (I : dt_I lv a1 a2 a3 a4 a5 a6 a7 a8 a9 a11 a12) (hp : p < 4) (h0 : ∀ r : Int32, r < 0 → post r (lv, a1, a2, a3, a4, a5, a6, a7, a8, a9, a10, a11, a12, a13, a14, a15))
    (h1 : ∀ c x b1 b2 b3, c < 4 → c ≠ p → dt_I x b1 b2 b3 a4 a5 a6 a7 a8 a9 a11 a12 → (∀ k, k < 24 → b2 k = if 6 * c ≤ k ∧ k < 6 * c + 6 then a2 (6 * p + (k - 6 * c)) else a2 k) → dt_O b3 = dt_O a3 → post (nI c) (x, b1, b2, b3, a4, a5, a6, a7, a8, a9, a10, a11, a12, a13, a14, a15)) : wpX_fork post (lv, a1, a2, a3, a4, a5, a6, a7, a8, a9, a10, a11, a12, a13, a14, a15) (nI p) := by
  unfold wpX_fork
  refine dt_isAlive hp (fun z => br_t rfl (h0 _ (by decide))) (fun hl => br_f (by decide) (br_c (fun _ => h0 _ (by decide)) (fun h4 => ?_)))
  have A := I.1.1
  have hex : ∃ c, c < 4 ∧ a1 c = 0 := by
    refine Classical.byContradiction (fun hn => h4 ?_)
    rw [A.1, dt_sm_c (g := fun _ => 1) (fun q hq => if_neg (fun z => hn ⟨q, hq, z⟩)), dt_sm_1]
    rfl
  have t := dt_scan (N := 4) a1 (wX_fork_25 post (nI p) lv a1 a2 a3 a4 a5 a6 a7 a8 a9 a10 a11 a12 a13 a14 a15) (by omega) (by omega) hex
    (fun n c hc hc0 => br_t (by decide) ⟨pk_in c 4 hc, by
      rw [nI_clamp (show c < 2 ^ 31 by omega)]
      refine nm_e (nm_e (dt_fork69 ⟨⟨dt_born A hc hc0, I.1.2⟩, I.2⟩ hp hc (fun z => hl (by rw [← z]; exact hc0)) (by rw [pk_us]; decide) (fun d hd => A.2 c hc hc0 d hd) (fun b2 b3 I' hk hu => ?_)))
      exact h1 c _ _ b2 b3 hc (fun z => hl (by rw [← z]; exact hc0)) I' hk (dt_O_c I.1.2.2.1 I'.1.2.2.1 (fun o => dt_cn_le a2 24 o) (fun o => dt_cn_le b2 24 o) hu)⟩)
    (fun n i s hi _ A B => br_f (nI_pos (by omega)) ⟨pk_in i 4 hi, by
      rw [nI_clamp (show i < 2 ^ 31 by omega)]
      exact br_c (fun g => nm_e (A g)) (fun g => nm_e (B g))⟩)
  rw [show nI 4 + (-1) = nI 3 from pk_m1 3] at t
  exact t
theorem dt_dup {post : Int32 → St1 → Prop} {p d : Nat} (I : dt_I lv a1 a2 a3 a4 a5 a6 a7 a8 a9 a11 a12) (hp : p < 4) (hd : d < 6) (h0 : ∀ r : Int32, r < 0 → post r (lv, a1, a2, a3, a4, a5, a6, a7, a8, a9, a10, a11, a12, a13, a14, a15))
    (h1 : ∀ e o b3, e < 6 → o < 24 → a2 (6 * p + d) = nI o → a2 (6 * p + e) = -1 → dt_I lv a1 (upd a2 (6 * p + e) (nI o)) b3 a4 a5 a6 a7 a8 a9 a11 a12 → post (nI e) (lv, a1, upd a2 (6 * p + e) (nI o), b3, a4, a5, a6, a7, a8, a9, a10, a11, a12, a13, a14, a15)) : wpX_dup post (lv, a1, a2, a3, a4, a5, a6, a7, a8, a9, a10, a11, a12, a13, a14, a15) (nI p) (nI d) := by
  unfold wpX_dup
  refine dt_openingOf hp hd (fun z => I.1.1.2 p hp z d hd) ?_
  rcases I.1.2.1 (6 * p + d) (by omega) with e | ⟨o, ho, e⟩
  · rw [e]
    exact br_f (by decide) (h0 _ (by decide))
  · have hl : ¬ a1 p = 0 := fun z => dt_m1 (show o < 2 ^ 31 by omega) ((I.1.1.2 p hp z d hd).symm.trans e)
    rw [e]
    refine br_t (nI_pos' (by omega)) (dt_freeD (d0 := 0) hp (by omega) (fun d' _ hd' hf => ?_) (br_f (by decide) (h0 _ (by decide))))
    have hf' := dt_neg I.1.2.1 (by omega) (show 6 * p + d' < 24 by omega) hf
    refine br_t (nI_pos' (by omega)) ⟨pk_in (6 * p + d') 24 (by omega) dt_ix, ?_⟩
    rw [dt_ix, nI_clamp (show 6 * p + d' < 2 ^ 31 by omega)]
    refine nm_e ⟨pk_in o 24 ho, pk_in o 24 ho, ?_⟩
    rw [nI_clamp (show o < 2 ^ 31 by omega)]
    exact nm_e (h1 d' o _ hd' ho e hf' (dt_ref I hp hd' ho hl hf' (dt_cn_pos (k := 6 * p + d) (by omega) e)))
theorem dt_open70 {post : Int32 → St1 → Prop} {p n d f : Nat} (I : dt_I lv a1 a2 a3 a4 a5 a6 a7 a8 a9 a11 a12) (hp : p < 4) (hn : n < 4) (hd : d < 6) (hl : ¬ a1 p = 0) (hj : a2 (6 * p + d) = -1) (hf : f < 28) (e7 : a7 n = nI f)
    (h : ∀ o b3 b5 b6 b8, o < 24 → dt_cn a2 24 o = 0 → dt_I lv a1 (upd a2 (6 * p + d) (nI o)) b3 (upd a4 o 1) b5 b6 a7 b8 a9 a11 a12 → post (nI d) (lv, a1, upd a2 (6 * p + d) (nI o), b3, upd a4 o 1, b5, b6, a7, b8, a9, a10, a11, a12, a13, a14, a15)) : wX_open_70 post (nI p) (nI n) (nI d) lv a1 a2 a3 a4 a5 a6 a7 a8 a9 a10 a11 a12 a13 a14 a15 := by
  obtain ⟨J, F, H⟩ := I
  unfold wX_open_70
  rw [nI_clamp (show n < 2 ^ 31 by omega), e7, nI_clamp (show f < 2 ^ 31 by omega)]
  refine ⟨pk_in n 4 hn, pk_in f 28 hf, pk_in f 28 hf, nm_e ⟨pk_in n 4 hn, dt_newO (dt_exO J hp hd hj) (fun o ho h3 => ⟨pk_in (6 * p + d) 24 (by omega) dt_ix, ?_⟩)⟩⟩
  have h0 := dt_zeroO J ho h3
  obtain ⟨u1, u2⟩ := dt_us_add (show 6 * p + d < 24 by omega) ho hj
  rw [dt_ix, nI_clamp (show 6 * p + d < 2 ^ 31 by omega)]
  refine nm_e (h o _ _ _ _ ho h0 ⟨dt_newJ J hp hd hl hj ho h0 (Or.inl ⟨rfl, f, hf, rfl, dt_cn_pos hn e7⟩) (Or.inl rfl), ⟨F.1.trans ?_, F.2.1.trans ?_, F.2.2⟩, fun f' hf' => ?_⟩)
  · rw [dt_R_new ho u1 h0 (by omega)]
    exact ⟨Or.inl, fun z => z.elim id (fun q => absurd q (by decide))⟩
  · rw [dt_R_new ho u1 h0 (by omega)]
    exact ⟨Or.inl, fun z => z.elim id (fun q => absurd q (by decide))⟩
  · rw [dt_fo_new ho u1 h0 (by omega)]
    by_cases e : f' = f
    · rw [e, pk_us, H f hf, if_pos ⟨rfl, rfl⟩, nI_1]
      rfl
    · rw [pk_un e, H f' hf', if_neg (fun z => e ((nI_eq (by omega) (by omega)).mp z.2).symm)]
      rfl
theorem dt_open {post : Int32 → St1 → Prop} {p n : Nat} (I : dt_I lv a1 a2 a3 a4 a5 a6 a7 a8 a9 a11 a12) (hp : p < 4) (hn : n < 4) (h0 : ∀ r : Int32, r < 0 → post r (lv, a1, a2, a3, a4, a5, a6, a7, a8, a9, a10, a11, a12, a13, a14, a15))
    (h1 : ∀ d o b3 b5 b6 b7 b8 b9, d < 6 → o < 24 → a2 (6 * p + d) = -1 → dt_cn a2 24 o = 0 → dt_I lv a1 (upd a2 (6 * p + d) (nI o)) b3 (upd a4 o 1) b5 b6 b7 b8 b9 a11 a12 → post (nI d) (lv, a1, upd a2 (6 * p + d) (nI o), b3, upd a4 o 1, b5, b6, b7, b8, b9, a10, a11, a12, a13, a14, a15)) : wpX_open post (lv, a1, a2, a3, a4, a5, a6, a7, a8, a9, a10, a11, a12, a13, a14, a15) (nI p) (nI n) := by
  unfold wpX_open
  refine dt_isAlive hp (fun z => br_t rfl (h0 _ (by decide))) (fun hl => br_f (by decide) (dt_isName hn (br_f (by decide) (dt_freeD (d0 := 0) hp (by omega) (fun d _ hd hf => ?_) (br_f (by decide) (h0 _ (by decide)))))))
  have hj := dt_neg I.1.2.1 (by omega) (show 6 * p + d < 24 by omega) hf
  refine br_t (nI_pos' (by omega)) ⟨pk_in n 4 hn, ?_⟩
  rw [nI_clamp (show n < 2 ^ 31 by omega)]
  rcases I.1.2.2.2.2.2.1 n hn with e | ⟨f, hf', e⟩
  · rw [e]
    refine br_f (by decide) (dt_freeF (dt_exF I) (fun f hf' h8 => ⟨pk_in n 4 hn, nm_e ⟨pk_in f 28 hf', ?_⟩⟩))
    rw [nI_clamp (show f < 2 ^ 31 by omega)]
    exact nm_e ⟨pk_in f 28 hf', nm_e (dt_open70 (dt_mkF I hn e hf' h8) hp hn hd hl hj hf' pk_us (fun o b3 b5 b6 b8 ho hu I' => h1 d o b3 b5 b6 _ b8 _ hd ho hj hu I'))⟩
  · rw [e]
    exact br_t (nI_pos' (by omega)) (dt_open70 I hp hn hd hl hj hf' e (fun o b3 b5 b6 b8 ho hu I' => h1 d o b3 b5 b6 _ b8 _ hd ho hj hu I'))
end
end
section
theorem dt_ix8 {f k : Nat} : (8 * nI f) + nI k = nI (8 * f + k) := by
  rw [show (8 : Int32) = nI 8 from rfl, pk_mul, nI_add]
theorem dt_ix0 {m : Nat} : (6 * (0 : Int32)) + nI m = nI m := by
  have t := dt_ix (p := 0) (d := m)
  rw [Nat.mul_zero, Nat.zero_add] at t
  exact t
theorem dt_D_6 {us : Nat → Nat} {a4 a5 a6 a7 : Nat → Int32} {o k : Nat} (D : dt_D us a4 a5 a6 a7) (hk : k ≤ 8) : dt_D us a4 a5 (upd a6 o (nI k)) a7 := by
  intro i hi hu
  rcases D i hi hu with ⟨h1, h2, h3⟩ | h
  · refine Or.inl ⟨h1, h2, ?_⟩
    by_cases e : i = o
    · exact ⟨k, hk, by rw [e, pk_us]⟩
    · rw [pk_un e]; exact h3
  · exact Or.inr h
theorem dt_L_u {a9 : Nat → Int32} {f k : Nat} (Le : dt_L a9) (hk : k ≤ 8) : dt_L (upd a9 f (nI k)) := by
  intro g hg
  by_cases e : g = f
  · exact ⟨k, hk, by rw [e, pk_us]⟩
  · rw [pk_un e]; exact Le g hg
section
variable {lv : Int32} {a1 a2 a3 a4 a5 a6 a7 a8 a9 a10 a11 a12 a13 a14 a15 : Nat → Int32}
theorem dt_pipe33 {post : Int32 → St1 → Prop} {p r e : Nat} (I : dt_I lv a1 a2 a3 a4 a5 a6 a7 a8 a9 a11 a12) (hp : p < 4) (hre : r < e) (he : e < 6) (hl : ¬ a1 p = 0) (jr : a2 (6 * p + r) = -1) (je : a2 (6 * p + e) = -1) (n1 : a11 0 = 0) (n2 : a12 0 = 0)
    (h1 : ∀ o o' b3 b5 b6 b11 b12, o < 24 → o' < 24 → o' ≠ o → dt_cn a2 24 o = 0 → dt_cn a2 24 o' = 0 → dt_I lv a1 (upd (upd a2 (6 * p + r) (nI o)) (6 * p + e) (nI o')) b3 (upd (upd a4 o 2) o' 3) b5 b6 a7 a8 a9 b11 b12 → post (nI (8 * r + e)) (lv, a1, upd (upd a2 (6 * p + r) (nI o)) (6 * p + e) (nI o'), b3, upd (upd a4 o 2) o' 3, b5, b6, a7, a8, a9, a10, b11, b12, upd a13 0 0, upd a14 0 0, a15)) : wX_pipe_33 post (nI p) (nI r) (nI e) lv a1 a2 a3 a4 a5 a6 a7 a8 a9 a10 a11 a12 a13 a14 a15 := by
  obtain ⟨J, F, H⟩ := I
  have R2 : ¬ dt_R (dt_cn a2 24) a4 2 := fun z => F.1.mpr z n1
  have R3 : ¬ dt_R (dt_cn a2 24) a4 3 := fun z => F.2.1.mpr z n2
  unfold wX_pipe_33
  refine br_t (nI_pos' (by omega)) (dt_freeP n1 n2 ⟨pk_in 0 24 (by omega), ?_⟩)
  rw [sb_cl0]
  refine nm_e ⟨pk_in 0 24 (by omega), nm_e ⟨pk_in 0 24 (by omega), nm_e ⟨pk_in 0 24 (by omega), nm_e (dt_newO (dt_exO J hp (show r < 6 by omega) jr) (fun o ho h3 => ⟨pk_in (6 * p + r) 24 (by omega) dt_ix, ?_⟩))⟩⟩⟩
  have h0 := dt_zeroO J ho h3
  obtain ⟨u1, u2⟩ := dt_us_add (show 6 * p + r < 24 by omega) ho jr
  have J1 := dt_newJ (s := 2) (t := 0) J hp (show r < 6 by omega) hl jr ho h0 (Or.inr ⟨Or.inl rfl, rfl⟩) (Or.inr R2)
  have je1 : upd a2 (6 * p + r) (nI o) (6 * p + e) = -1 := by rw [pk_un (by omega)]; exact je
  rw [dt_ix, nI_clamp (show 6 * p + r < 2 ^ 31 by omega)]
  refine nm_e (dt_newO (dt_exO J1 hp he je1) (fun o' ho' h3' => ⟨pk_in (6 * p + e) 24 (by omega) dt_ix, ?_⟩))
  have h0' := dt_zeroO J1 ho' h3'
  obtain ⟨v1, v2⟩ := dt_us_add (show 6 * p + e < 24 by omega) ho' je1
  have hne : o' ≠ o := fun z => by rw [z, u2] at h0'; omega
  have h0'' : dt_cn a2 24 o' = 0 := by rw [← u1 o' ho' hne]; exact h0'
  have R3' : ¬ dt_R (dt_cn (upd a2 (6 * p + r) (nI o)) 24) (upd a4 o 2) 3 := by
    rw [dt_R_new ho u1 h0 (by omega)]
    exact fun z => z.elim R3 (fun q => absurd q (by decide))
  have J2 := dt_newJ (s := 3) (t := 0) J1 hp he hl je1 ho' h0' (Or.inr ⟨Or.inr rfl, rfl⟩) (Or.inr R3')
  rw [dt_ix, nI_clamp (show 6 * p + e < 2 ^ 31 by omega), dt_ix8]
  refine nm_e (h1 o o' _ _ _ _ _ ho ho' hne h0 h0'' ⟨J2, ⟨⟨fun _ => ?_, fun _ => ?_⟩, ⟨fun _ => ?_, fun _ => ?_⟩, fun q q1 q2 => ?_⟩, fun f hf => ?_⟩)
  · rw [dt_R_new ho' v1 h0' (by omega), dt_R_new ho u1 h0 (by omega)]
    exact Or.inl (Or.inr rfl)
  · rw [pk_us]; decide
  · rw [dt_R_new ho' v1 h0' (by omega)]
    exact Or.inr rfl
  · rw [pk_us]; decide
  · rw [pk_un (by omega), pk_un (by omega)]
    exact F.2.2 q q1 q2
  · rw [dt_fo_new ho' v1 h0' (by omega), dt_fo_new ho u1 h0 (by omega), if_neg (fun z => absurd z.1 (by decide)), if_neg (fun z => absurd z.1 (by decide))]
    exact H f hf
theorem dt_pipe {post : Int32 → St1 → Prop} {p : Nat} (I : dt_I lv a1 a2 a3 a4 a5 a6 a7 a8 a9 a11 a12) (hp : p < 4) (n1 : a11 0 = 0) (n2 : a12 0 = 0) (h0 : ∀ r : Int32, r < 0 → post r (lv, a1, a2, a3, a4, a5, a6, a7, a8, a9, a10, a11, a12, a13, a14, a15))
    (h1 : ∀ r e o o' b3 b5 b6 b11 b12, r < e → e < 6 → a2 (6 * p + r) = -1 → a2 (6 * p + e) = -1 → o < 24 → o' < 24 → o' ≠ o → dt_cn a2 24 o = 0 → dt_cn a2 24 o' = 0 → dt_I lv a1 (upd (upd a2 (6 * p + r) (nI o)) (6 * p + e) (nI o')) b3 (upd (upd a4 o 2) o' 3) b5 b6 a7 a8 a9 b11 b12 → post (nI (8 * r + e)) (lv, a1, upd (upd a2 (6 * p + r) (nI o)) (6 * p + e) (nI o'), b3, upd (upd a4 o 2) o' 3, b5, b6, a7, a8, a9, a10, b11, b12, upd a13 0 0, upd a14 0 0, a15)) : wpX_pipe post (lv, a1, a2, a3, a4, a5, a6, a7, a8, a9, a10, a11, a12, a13, a14, a15) (nI p) := by
  unfold wpX_pipe
  have hf : ∀ x : Int32, wX_pipe_33 post (nI p) x (-1) lv a1 a2 a3 a4 a5 a6 a7 a8 a9 a10 a11 a12 a13 a14 a15 := fun x => by
    unfold wX_pipe_33
    exact br_f (by decide) (h0 _ (by decide))
  refine dt_isAlive hp (fun z => br_t rfl (h0 _ (by decide))) (fun hl => br_f (by decide) (dt_freeD (d0 := 0) hp (by omega) (fun r _ hr fr => ?_) (br_f (by decide) (hf _))))
  have jr := dt_neg I.1.2.1 (by omega) (show 6 * p + r < 24 by omega) fr
  refine br_t (nI_pos' (by omega)) ?_
  rw [nI_1]
  refine dt_freeD (d0 := r + 1) hp (by omega) (fun e hre he fe => ?_) (hf _)
  have je := dt_neg I.1.2.1 (by omega) (show 6 * p + e < 24 by omega) fe
  exact dt_pipe33 I hp (by omega) he hl jr je n1 n2 (fun o o' b3 b5 b6 b11 b12 ho ho' hne z z' I' => h1 r e o o' b3 b5 b6 b11 b12 (by omega) he jr je ho ho' hne z z' I')
theorem dt_wrF {post : Int32 → St1 → Prop} {o : Nat} {v : Int32} (I : dt_I lv a1 a2 a3 a4 a5 a6 a7 a8 a9 a11 a12) (ho : o < 24) (hu : 0 < dt_cn a2 24 o) (e4 : a4 o = 1) (h0 : ∀ r : Int32, ¬ r = 0 → post r (lv, a1, a2, a3, a4, a5, a6, a7, a8, a9, a10, a11, a12, a13, a14, a15))
    (h1 : ∀ b6 b9 b10, dt_I lv a1 a2 a3 a4 a5 b6 a7 a8 b9 a11 a12 → post 0 (lv, a1, a2, a3, a4, a5, b6, a7, a8, b9, b10, a11, a12, a13, a14, a15)) : wpX_writeFile post (lv, a1, a2, a3, a4, a5, a6, a7, a8, a9, a10, a11, a12, a13, a14, a15) (nI o) v := by
  obtain ⟨⟨A, B, C, D, E, G, Le⟩, F, H⟩ := I
  unfold wpX_writeFile
  rcases D o ho hu with ⟨_, ⟨f, hf, e5, _⟩, ⟨k, hk, e6⟩⟩ | ⟨e | e, _⟩
  · rw [nI_clamp (show o < 2 ^ 31 by omega)]
    refine ⟨pk_in o 24 ho, nm_r e5 ⟨pk_in o 24 ho, nm_r e6 (pk_lt k 8 (fun hk8 => ⟨pk_in (8 * f + k) 224 (by omega) dt_ix8, ?_⟩) (fun _ => h0 _ (by decide)))⟩⟩
    rw [dt_ix8, nI_clamp (show 8 * f + k < 2 ^ 31 by omega), nI_clamp (show f < 2 ^ 31 by omega), nI_1]
    exact nm_e ⟨pk_in o 24 ho, nm_e ⟨pk_in f 28 hf, br_c (fun _ => ⟨pk_in f 28 hf, nm_e (h1 _ _ _ ⟨⟨A, B, C, dt_D_6 D (by omega), E, G, dt_L_u Le (by omega)⟩, F, H⟩)⟩) (fun _ => h1 _ _ _ ⟨⟨A, B, C, dt_D_6 D (by omega), E, G, Le⟩, F, H⟩)⟩⟩
  · exact absurd (e4.symm.trans e) (by decide)
  · exact absurd (e4.symm.trans e) (by decide)
theorem dt_rdF {post : Int32 → St1 → Prop} {o : Nat} (I : dt_I lv a1 a2 a3 a4 a5 a6 a7 a8 a9 a11 a12) (ho : o < 24) (hu : 0 < dt_cn a2 24 o) (e4 : a4 o = 1) (h0 : ∀ r : Int32, r < 0 → post r (lv, a1, a2, a3, a4, a5, a6, a7, a8, a9, a10, a11, a12, a13, a14, a15))
    (h1 : ∀ r b6, dt_I lv a1 a2 a3 a4 a5 b6 a7 a8 a9 a11 a12 → post r (lv, a1, a2, a3, a4, a5, b6, a7, a8, a9, a10, a11, a12, a13, a14, a15)) : wpX_readFile post (lv, a1, a2, a3, a4, a5, a6, a7, a8, a9, a10, a11, a12, a13, a14, a15) (nI o) := by
  obtain ⟨⟨A, B, C, D, E, G, Le⟩, F, H⟩ := I
  unfold wpX_readFile
  rcases D o ho hu with ⟨_, ⟨f, hf, e5, _⟩, ⟨k, hk, e6⟩⟩ | ⟨e | e, _⟩
  · obtain ⟨l, hl, e9⟩ := Le f hf
    rw [nI_clamp (show o < 2 ^ 31 by omega)]
    refine ⟨pk_in o 24 ho, nm_r e5 ⟨pk_in o 24 ho, nm_r e6 ⟨pk_in f 28 hf, ?_⟩⟩⟩
    rw [nI_clamp (show f < 2 ^ 31 by omega), e9]
    refine pk_lt k l (fun hkl => ⟨pk_in o 24 ho, ?_⟩) (fun _ => h0 _ (by decide))
    rw [nI_1]
    exact nm_e ⟨pk_in (8 * f + k) 224 (by omega) dt_ix8, h1 _ _ ⟨⟨A, B, C, dt_D_6 D (by omega), E, G, Le⟩, F, H⟩⟩
  · exact absurd (e4.symm.trans e) (by decide)
  · exact absurd (e4.symm.trans e) (by decide)
theorem dt_wrP62 {post : Int32 → St1 → Prop} {v : Int32} {m c : Nat} (hm : m < 6) (e14 : a14 0 = nI c) (h1 : post 0 (lv, a1, a2, a3, a4, a5, a6, a7, a8, a9, a10, a11, a12, a13, upd a14 0 (nI (c + 1)), upd a15 m v)) : wX_writePipe_62 post 0 v (nI m) (6 * 0) lv a1 a2 a3 a4 a5 a6 a7 a8 a9 a10 a11 a12 a13 a14 a15 := by
  unfold wX_writePipe_62
  rw [dt_ix0, sb_cl0, nI_clamp (show m < 2 ^ 31 by omega), e14, nI_1]
  exact ⟨pk_in m 144 (by omega), nm_e ⟨pk_in 0 24 (by omega), pk_in 0 24 (by omega), nm_e h1⟩⟩
theorem dt_wrP {post : Int32 → St1 → Prop} {v : Int32} {st c : Nat} (hst : st < 6) (e13 : a13 0 = nI st) (hc : c ≤ 6) (e14 : a14 0 = nI c) (h0 : ∀ r : Int32, ¬ r = 0 → post r (lv, a1, a2, a3, a4, a5, a6, a7, a8, a9, a10, a11, a12, a13, a14, a15))
    (h1 : c < 6 → post 0 (lv, a1, a2, a3, a4, a5, a6, a7, a8, a9, a10, a11, a12, a13, upd a14 0 (nI (c + 1)), upd a15 ((st + c) % 6) v)) : wpX_writePipe post (lv, a1, a2, a3, a4, a5, a6, a7, a8, a9, a10, a11, a12, a13, a14, a15) 0 v := by
  unfold wpX_writePipe
  rw [sb_cl0]
  refine ⟨pk_in 0 24 (by omega), br_c (fun _ => h0 _ (by decide)) (fun _ => ⟨pk_in 0 24 (by omega), ?_⟩)⟩
  rw [e13, e14]
  refine pk_eq c 6 (fun _ => h0 _ (by decide)) (fun hne => ⟨pk_in 0 24 (by omega), pk_in 0 24 (by omega), nm_r (nI_add st c) (pk_lt (st + c) 6 (fun hl => ?_) (fun hg => ?_))⟩)
  · refine dt_wrP62 hl e14 ?_
    have t := h1 (by omega)
    rw [Nat.mod_eq_of_lt hl] at t
    exact t
  · rw [show nI (st + c) - 6 = nI (st + c - 6) from pk_sub (b := 6) hg]
    refine dt_wrP62 (by omega) e14 ?_
    have t := h1 (by omega)
    rw [show (st + c) % 6 = st + c - 6 by omega] at t
    exact t
theorem dt_rdP70 {post : Int32 → St1 → Prop} {x : Int32} {m c : Nat} (hc : 0 < c) (e14 : a14 0 = nI c) (h1 : post x (lv, a1, a2, a3, a4, a5, a6, a7, a8, a9, a10, a11, a12, upd a13 0 (nI m), upd a14 0 (nI (c - 1)), a15)) : wX_readPipe_70 post 0 x (nI m) 0 lv a1 a2 a3 a4 a5 a6 a7 a8 a9 a10 a11 a12 a13 a14 a15 := by
  unfold wX_readPipe_70
  rw [sb_cl0, e14, show nI c - 1 = nI (c - 1) from pk_sub (b := 1) hc]
  exact ⟨pk_in 0 24 (by omega), nm_e ⟨pk_in 0 24 (by omega), pk_in 0 24 (by omega), nm_e h1⟩⟩
theorem dt_rdP {post : Int32 → St1 → Prop} {st c : Nat} (hst : st < 6) (e13 : a13 0 = nI st) (hc : c ≤ 6) (e14 : a14 0 = nI c) (h0 : ∀ r : Int32, r < 0 → post r (lv, a1, a2, a3, a4, a5, a6, a7, a8, a9, a10, a11, a12, a13, a14, a15))
    (h1 : 0 < c → post (a15 st) (lv, a1, a2, a3, a4, a5, a6, a7, a8, a9, a10, a11, a12, upd a13 0 (nI ((st + 1) % 6)), upd a14 0 (nI (c - 1)), a15)) : wpX_readPipe post (lv, a1, a2, a3, a4, a5, a6, a7, a8, a9, a10, a11, a12, a13, a14, a15) 0 := by
  unfold wpX_readPipe
  rw [sb_cl0]
  refine ⟨pk_in 0 24 (by omega), ?_⟩
  rw [e13, e14, dt_ix0, nI_clamp (show st < 2 ^ 31 by omega)]
  refine pk_eq c 0 (fun _ => ⟨pk_in 0 24 (by omega), br_c (fun _ => h0 _ (by decide)) (fun _ => h0 _ (by decide))⟩) (fun hne => ⟨pk_in 0 24 (by omega), pk_in st 144 (by omega), nm_e ⟨pk_in 0 24 (by omega), pk_eq st 5 (fun h5 => ?_) (fun h5 => ⟨pk_in 0 24 (by omega), ?_⟩)⟩⟩)
  · have t := h1 (by omega)
    rw [show (st + 1) % 6 = 0 by omega] at t
    exact dt_rdP70 (m := 0) (by omega) e14 t
  · have t := h1 (by omega)
    rw [show (st + 1) % 6 = st + 1 by omega] at t
    rw [nI_1]
    exact dt_rdP70 (by omega) e14 t
theorem dt_write {post : Int32 → St1 → Prop} {p d st c : Nat} {v : Int32} (I : dt_I lv a1 a2 a3 a4 a5 a6 a7 a8 a9 a11 a12) (hp : p < 4) (hd : d < 6) (hst : st < 6) (e13 : a13 0 = nI st) (hc : c ≤ 6) (e14 : a14 0 = nI c) (h0 : ∀ r : Int32, ¬ r = 0 → post r (lv, a1, a2, a3, a4, a5, a6, a7, a8, a9, a10, a11, a12, a13, a14, a15))
    (h1 : ∀ o b6 b9 b10, o < 24 → a2 (6 * p + d) = nI o → a4 o = 1 → dt_I lv a1 a2 a3 a4 a5 b6 a7 a8 b9 a11 a12 → post 0 (lv, a1, a2, a3, a4, a5, b6, a7, a8, b9, b10, a11, a12, a13, a14, a15))
    (h2 : ∀ o, o < 24 → a2 (6 * p + d) = nI o → a4 o = 3 → c < 6 → post 0 (lv, a1, a2, a3, a4, a5, a6, a7, a8, a9, a10, a11, a12, a13, upd a14 0 (nI (c + 1)), upd a15 ((st + c) % 6) (v &&& 255))) : wpX_write post (lv, a1, a2, a3, a4, a5, a6, a7, a8, a9, a10, a11, a12, a13, a14, a15) (nI p) (nI d) v := by
  unfold wpX_write
  refine dt_openingOf hp hd (fun z => I.1.1.2 p hp z d hd) ?_
  rcases I.1.2.1 (6 * p + d) (by omega) with e | ⟨o, ho, e⟩
  · rw [e]
    exact br_t (by decide) (h0 _ (by decide))
  · have hu := dt_cn_pos (M := 24) (k := 6 * p + d) (by omega) e
    rw [e, nI_clamp (show o < 2 ^ 31 by omega)]
    refine br_f (nI_pos (by omega)) ⟨pk_in o 24 ho, br_c (fun _ => h0 _ (by decide)) (fun g2 => ⟨pk_in o 24 ho, br_c (fun g1 => ?_) (fun g1 => ⟨pk_in o 24 ho, ?_⟩)⟩)⟩
    · exact dt_wrF I ho hu g1 h0 (fun b6 b9 b10 I' => h1 o b6 b9 b10 ho e g1 I')
    · rcases I.1.2.2.2.1 o ho hu with ⟨e4, _⟩ | ⟨e4 | e4, e5⟩
      · exact absurd e4 g1
      · exact absurd e4 g2
      · rw [e5]
        exact dt_wrP hst e13 hc e14 h0 (fun hc6 => h2 o ho e e4 hc6)
theorem dt_read {post : Int32 → St1 → Prop} {p d st c : Nat} (I : dt_I lv a1 a2 a3 a4 a5 a6 a7 a8 a9 a11 a12) (hp : p < 4) (hd : d < 6) (hst : st < 6) (e13 : a13 0 = nI st) (hc : c ≤ 6) (e14 : a14 0 = nI c) (h0 : ∀ r : Int32, r < 0 → post r (lv, a1, a2, a3, a4, a5, a6, a7, a8, a9, a10, a11, a12, a13, a14, a15))
    (h1 : ∀ o r b6, o < 24 → a2 (6 * p + d) = nI o → a4 o = 1 → dt_I lv a1 a2 a3 a4 a5 b6 a7 a8 a9 a11 a12 → post r (lv, a1, a2, a3, a4, a5, b6, a7, a8, a9, a10, a11, a12, a13, a14, a15))
    (h2 : ∀ o, o < 24 → a2 (6 * p + d) = nI o → a4 o = 2 → 0 < c → post (a15 st) (lv, a1, a2, a3, a4, a5, a6, a7, a8, a9, a10, a11, a12, upd a13 0 (nI ((st + 1) % 6)), upd a14 0 (nI (c - 1)), a15)) : wpX_read post (lv, a1, a2, a3, a4, a5, a6, a7, a8, a9, a10, a11, a12, a13, a14, a15) (nI p) (nI d) := by
  unfold wpX_read
  refine dt_openingOf hp hd (fun z => I.1.1.2 p hp z d hd) ?_
  rcases I.1.2.1 (6 * p + d) (by omega) with e | ⟨o, ho, e⟩
  · rw [e]
    exact br_t (by decide) (h0 _ (by decide))
  · have hu := dt_cn_pos (M := 24) (k := 6 * p + d) (by omega) e
    rw [e, nI_clamp (show o < 2 ^ 31 by omega)]
    refine br_f (nI_pos (by omega)) ⟨pk_in o 24 ho, br_c (fun _ => h0 _ (by decide)) (fun g2 => ⟨pk_in o 24 ho, br_c (fun g1 => ?_) (fun g1 => ⟨pk_in o 24 ho, ?_⟩)⟩)⟩
    · exact dt_rdF I ho hu g1 h0 (fun r b6 I' => h1 o r b6 ho e g1 I')
    · rcases I.1.2.2.2.1 o ho hu with ⟨e4, _⟩ | ⟨e4 | e4, e5⟩
      · exact absurd e4 g1
      · rw [e5]
        exact dt_rdP hst e13 hc e14 h0 (fun hc0 => h2 o ho e e4 hc0)
      · exact absurd e4 g2
theorem dt_lnk {n f : Nat} (I : dt_I lv a1 a2 a3 a4 a5 a6 a7 a8 a9 a11 a12) (hn : n < 4) (hn1 : a7 n = -1) (hf : f < 28) : dt_I lv a1 a2 a3 a4 a5 a6 (upd a7 n (nI f)) (upd a8 f (a8 f + 1)) a9 a11 a12 := by
  obtain ⟨⟨A, B, C, D, E, G, Le⟩, F, H⟩ := I
  refine ⟨⟨A, B, C, ?_, E, dt_B_u G (Or.inr ⟨f, hf, rfl⟩), Le⟩, F, ?_⟩
  · intro o ho hu
    rcases D o ho hu with ⟨e1, ⟨g, hg, e2, h2⟩, h3⟩ | h
    · refine Or.inl ⟨e1, ⟨g, hg, e2, ?_⟩, h3⟩
      rw [dt_cn_add hn hn1 (by omega) (by omega)]
      omega
    · exact Or.inr h
  · intro g hg
    rw [dt_cn_add hn hn1 (by omega) (by omega)]
    by_cases e : g = f
    · rw [e, pk_us, if_pos rfl, H f hf, nI_1]
      exact congrArg nI (by omega)
    · rw [pk_un e, if_neg e]
      exact H g hg
theorem dt_link {post : Int32 → St1 → Prop} {p n : Nat} (I : dt_I lv a1 a2 a3 a4 a5 a6 a7 a8 a9 a11 a12) (hp : p < 4) (hn : n < 4) (h : ∀ r b7 b8, dt_I lv a1 a2 a3 a4 a5 a6 b7 b8 a9 a11 a12 → post r (lv, a1, a2, a3, a4, a5, a6, b7, b8, a9, a10, a11, a12, a13, a14, a15)) : wpX_link post (lv, a1, a2, a3, a4, a5, a6, a7, a8, a9, a10, a11, a12, a13, a14, a15) (nI p) (nI n) := by
  unfold wpX_link
  refine dt_isName hp (br_f (by decide) (dt_isName hn (br_f (by decide) ⟨pk_in p 4 hp, ?_⟩)))
  rw [nI_clamp (show p < 2 ^ 31 by omega), nI_clamp (show n < 2 ^ 31 by omega)]
  refine br_c (fun _ => h _ _ _ I) (fun g => ⟨pk_in n 4 hn, br_c (fun g2 => ⟨pk_in p 4 hp, pk_in n 4 hn, nm_e ⟨pk_in n 4 hn, ?_⟩⟩) (fun _ => h _ _ _ I)⟩)
  have G := I.1.2.2.2.2.2.1
  have e7 : a7 n = -1 := by
    rcases G n hn with e | ⟨f, hf, e⟩
    · exact e
    · rw [e] at g2
      exact absurd g2 (nI_pos (by omega))
  rcases G p hp with e | ⟨f, hf, e⟩
  · rw [e] at g
    exact absurd (by decide) g
  · rw [pk_us, e, nI_clamp (show f < 2 ^ 31 by omega)]
    exact ⟨pk_in f 28 hf, pk_in f 28 hf, nm_e (h _ _ _ (dt_lnk I hn e7 hf))⟩
theorem dt_unlink {post : Int32 → St1 → Prop} {n : Nat} (hn : n < 4) (G : dt_B a7 4 28) (h0 : a7 n = -1 → post (-1) (lv, a1, a2, a3, a4, a5, a6, a7, a8, a9, a10, a11, a12, a13, a14, a15)) (h1 : ∀ f, f < 28 → a7 n = nI f → post 0 (lv, a1, a2, a3, a4, a5, a6, upd a7 n (-1), upd a8 f (a8 f - 1), a9, a10, a11, a12, a13, a14, a15)) : wpX_unlink post (lv, a1, a2, a3, a4, a5, a6, a7, a8, a9, a10, a11, a12, a13, a14, a15) (nI n) := by
  unfold wpX_unlink
  refine dt_isName hn (br_f (by decide) ⟨pk_in n 4 hn, ?_⟩)
  rw [nI_clamp (show n < 2 ^ 31 by omega)]
  rcases G n hn with e | ⟨f, hf, e⟩
  · rw [e]
    exact br_f (by decide) (h0 e)
  · have t := h1 f hf e
    rw [e, nI_clamp (show f < 2 ^ 31 by omega)]
    exact br_t (nI_pos' (by omega)) ⟨pk_in n 4 hn, pk_in f 28 hf, pk_in f 28 hf, nm_e ⟨pk_in n 4 hn, nm_e t⟩⟩
end
end
section
theorem dt_O_0 {us : Nat → Nat} {a3 : Nat → Int32} (C : dt_C us a3) (h : ∀ o, o < 24 → us o = 0) : dt_O a3 = 0 := dt_sm_0 (fun o ho => if_pos (by rw [C o ho, h o ho]; decide))
theorem dt_P_0 {a11 a12 : Nat → Int32} (h : ∀ p, p < 24 → a11 p = 0 ∧ a12 p = 0) : dt_P a11 a12 = 0 := dt_sm_0 (fun p hp => if_pos (h p hp))
theorem dt_F_e {a7 a8 : Nat → Int32} (h : ∀ f, f < 28 → a8 f = nI (dt_cn a7 4 f)) : dt_F a8 = dt_sm (fun f => if dt_cn a7 4 f = 0 then 0 else 1) 28 := by
  refine dt_sm_c (fun f hf => ?_)
  have hle := dt_cn_le a7 4 f
  have e1 : a8 f ≤ 0 ↔ dt_cn a7 4 f = 0 := by
    rw [h f hf]
    exact (nI_leI (a := dt_cn a7 4 f) (b := 0) (by omega) (by omega)).trans Nat.le_zero
  by_cases z : dt_cn a7 4 f = 0
  · rw [if_pos z, if_pos (e1.mpr z)]
  · rw [if_neg z, if_neg (fun q => z (e1.mp q))]
theorem dt_F_le {a7 a8 : Nat → Int32} (h : ∀ f, f < 28 → a8 f = nI (dt_cn a7 4 f)) : dt_F a8 ≤ 4 := by
  rw [dt_F_e h]
  have t1 : dt_sm (fun f => if dt_cn a7 4 f = 0 then 0 else 1) 28 ≤ dt_sm (fun f => dt_cn a7 4 f) 28 := dt_sm_le (fun f _ => by
    by_cases z : dt_cn a7 4 f = 0
    · simp only [if_pos z]; omega
    · simp only [if_neg z]; omega)
  have t2 := dt_tot (a := a7) (M := 4) (N := 28) (by omega)
  have t3 : dt_sm (fun j => if a7 j = -1 then 0 else 1) 4 ≤ 4 := dt_sm_b (fun i _ => dt_fr1 a7 i)
  omega
theorem dt_F_0 {a7 a8 : Nat → Int32} (h : ∀ f, f < 28 → a8 f = nI (dt_cn a7 4 f)) (h7 : ∀ n, n < 4 → a7 n = -1) : dt_F a8 = 0 := by
  rw [dt_F_e h]
  exact dt_sm_0 (fun f hf => if_pos (dt_cn_0 (by omega) h7))
/-- a name is taken away: the same files, or one less -/
theorem dt_unl {a7 a8 : Nat → Int32} {n f : Nat} (h : ∀ f, f < 28 → a8 f = nI (dt_cn a7 4 f)) (hn : n < 4) (hf : f < 28) (e : a7 n = nI f) :
    (∀ g, g < 28 → upd a8 f (a8 f - 1) g = nI (dt_cn (upd a7 n (-1)) 4 g)) ∧ (dt_F (upd a8 f (a8 f - 1)) = dt_F a8 ∨ dt_F (upd a8 f (a8 f - 1)) + 1 = dt_F a8) := by
  have hs : ∀ g, g < 28 → dt_cn (upd a7 n (-1)) 4 g + (if g = f then 1 else 0) = dt_cn a7 4 g := fun g hg => dt_cn_sub hn e (by omega) (by omega)
  have h' : ∀ g, g < 28 → upd a8 f (a8 f - 1) g = nI (dt_cn (upd a7 n (-1)) 4 g) := by
    intro g hg
    have t := hs g hg
    by_cases z : g = f
    · rw [z] at t ⊢
      rw [if_pos rfl] at t
      rw [pk_us, h f hf, ← t, nI_pred]
    · rw [if_neg z] at t
      rw [pk_un z, h g hg, ← t]
      rfl
  refine ⟨h', ?_⟩
  rw [dt_F_e h', dt_F_e h]
  have t := dt_sm_u (n := 28) (k := f) (f := fun g => if dt_cn a7 4 g = 0 then 0 else 1) (g := fun g => if dt_cn (upd a7 n (-1)) 4 g = 0 then 0 else 1) hf (fun g hg hne => by
    have t := hs g hg
    rw [if_neg hne, Nat.add_zero] at t
    simp only [t])
  have tf := hs f hf
  rw [if_pos rfl] at tf
  have e1 : (if dt_cn a7 4 f = 0 then 0 else 1) = 1 := if_neg (by omega)
  simp only [e1] at t
  by_cases z : dt_cn (upd a7 n (-1)) 4 f = 0
  · simp only [if_pos z] at t
    right
    omega
  · simp only [if_neg z] at t
    left
    omega
section
variable {lv : Int32} {a1 a2 a3 a4 a5 a6 a7 a8 a9 a10 a11 a12 a13 a14 a15 : Nat → Int32}
theorem dt_counts0 {post : Int32 → Prop} (hO : dt_O a3 = 0) (hP : dt_P a11 a12 = 0) (h : post (nI (10 * dt_F a8))) : wpX_counts post (lv, a1, a2, a3, a4, a5, a6, a7, a8, a9, a10, a11, a12, a13, a14, a15) := by
  refine dt_counts ?_
  rw [hO, hP, show 100 * 0 + 10 * dt_F a8 + 0 = 10 * dt_F a8 by omega]
  exact h
theorem dt_e74 {post : Int32 → St1 → Prop} (G : dt_B a7 4 28) (H : ∀ f, f < 28 → a8 f = nI (dt_cn a7 4 f)) (hO : dt_O a3 = 0) (hP : dt_P a11 a12 = 0) (h : ∀ u, post 1 u) : ∃ n, wL_ended_74 post (nI (10 * dt_F a8)) n 0 0 lv a1 a2 a3 a4 a5 a6 a7 a8 a9 a10 a11 a12 a13 a14 a15 := by
  have hF := dt_F_le H
  have t := pk_loop (σ := (Nat → Int32) × (Nat → Int32))
    (fun n i s => wL_ended_74 post (nI (10 * dt_F a8)) n (nI (10 * (dt_F a8 - dt_F s.2))) (nI i) lv a1 a2 a3 a4 a5 a6 s.1 s.2 a9 a10 a11 a12 a13 a14 a15)
    (fun i s => dt_B s.1 4 28 ∧ (∀ f, f < 28 → s.2 f = nI (dt_cn s.1 4 f)) ∧ (∀ m, m < i → s.1 m = -1) ∧ dt_F s.2 ≤ dt_F a8)
    4 0 (a7, a8) (by omega) ⟨G, H, fun m hm => absurd hm (by omega), Nat.le_refl _⟩
    (fun n s ⟨G', H', hm, hle⟩ => by
      have h0 := dt_F_0 H' hm
      refine pk_le 4 4 (fun _ => pk_eq (10 * (dt_F a8 - dt_F s.2)) (10 * dt_F a8) (fun _ => dt_counts0 hO hP ?_) (fun z => absurd h0 (by omega))) (fun z => absurd z (by omega))
      rw [h0]
      exact br_t (by decide) (h _))
    (fun n i s hi ⟨G', H', hm, hle⟩ hw => by
      refine pk_le 4 i (fun z => absurd z (by omega)) (fun _ => dt_counts0 hO hP (dt_unlink hi G' (fun e => dt_counts0 hO hP ?_) (fun f hf e => dt_counts0 hO hP ?_)))
      · refine nm_r ((pk_sub (Nat.le_refl _)).trans (congrArg nI (Nat.sub_self _))) (br_t rfl (nm_r (nI_add _ 0) (nm_r (nI_1 i) (hw s ⟨G', H', fun m hm' => ?_, hle⟩))))
        by_cases z : m = i
        · rw [z]; exact e
        · exact hm m (by omega)
      · obtain ⟨H2, hF2⟩ := dt_unl H' hi hf e
        have hle2 : dt_F (upd s.2 f (s.2 f - 1)) ≤ dt_F s.2 := by omega
        have t := hw (upd s.1 i (-1), upd s.2 f (s.2 f - 1)) ⟨dt_B_u G' (Or.inl rfl), H2, fun m hm' => by
          show upd s.1 i (-1) m = -1
          by_cases z : m = i
          · rw [z, pk_us]
          · rw [pk_un z]; exact hm m (by omega), Nat.le_trans hle2 hle⟩
        have e2 : nI (10 * (dt_F a8 - dt_F s.2)) + nI (10 * dt_F s.2 - 10 * dt_F (upd s.2 f (s.2 f - 1))) = nI (10 * (dt_F a8 - dt_F (upd s.2 f (s.2 f - 1)))) := by
          rw [nI_add]
          exact congrArg nI (by omega)
        exact nm_r (pk_sub (by omega)) (pk_eq (10 * dt_F s.2 - 10 * dt_F (upd s.2 f (s.2 f - 1))) 0 (fun _ => nm_r e2 (nm_r (nI_1 i) t)) (fun hne => br_t rfl (pk_eq (10 * dt_F s.2 - 10 * dt_F (upd s.2 f (s.2 f - 1))) 10 (fun _ => nm_r e2 (nm_r (nI_1 i) t)) (fun z => absurd z (by omega))))))
  obtain ⟨n, hn⟩ := t
  have hn' : wL_ended_74 post (nI (10 * dt_F a8)) n (nI (10 * (dt_F a8 - dt_F a8))) (nI 0) lv a1 a2 a3 a4 a5 a6 a7 a8 a9 a10 a11 a12 a13 a14 a15 := hn
  rw [show 10 * (dt_F a8 - dt_F a8) = 0 by omega] at hn'
  exact ⟨n, hn'⟩
theorem dt_e21 {post : Int32 → St1 → Prop} (I : dt_I lv a1 a2 a3 a4 a5 a6 a7 a8 a9 a11 a12) (h : ∀ u, post 1 u) : ∃ n, wL_ended_21 post n 0 lv a1 a2 a3 a4 a5 a6 a7 a8 a9 a10 a11 a12 a13 a14 a15 := by
  refine pk_loop (σ := (Nat → Int32) × (Nat → Int32) × (Nat → Int32) × (Nat → Int32) × (Nat → Int32))
    (fun n i s => wL_ended_21 post n (nI i) lv a1 s.1 s.2.1 a4 a5 a6 a7 s.2.2.1 a9 a10 s.2.2.2.1 s.2.2.2.2 a13 a14 a15)
    (fun i s => dt_I lv a1 s.1 s.2.1 a4 a5 a6 a7 s.2.2.1 a9 s.2.2.2.1 s.2.2.2.2 ∧ ∀ k, k < i → s.1 k = -1)
    24 0 (a2, a3, a8, a11, a12) (by omega) ⟨I, fun k hk => absurd hk (by omega)⟩ ?_ ?_
  · intro n s ⟨⟨⟨A, B, C, D, E, G, Le⟩, F, H⟩, hk⟩
    have hu : ∀ o, o < 24 → dt_cn s.1 24 o = 0 := fun o ho => dt_cn_0 (by omega) hk
    have hO := dt_O_0 C hu
    have hR : ∀ x : Int32, ¬ dt_R (dt_cn s.1 24) a4 x := fun x ⟨o, ho, hz, _⟩ => by
      have := hu o ho
      omega
    have hP : dt_P s.2.2.2.1 s.2.2.2.2 = 0 := dt_P_0 (fun q hq => by
      by_cases z : q = 0
      · rw [z]
        exact ⟨Classical.byContradiction (fun y => hR 2 (F.1.mp y)), Classical.byContradiction (fun y => hR 3 (F.2.1.mp y))⟩
      · exact F.2.2 q (by omega) hq)
    have H7 : ∀ f, f < 28 → s.2.2.1 f = nI (dt_cn a7 4 f) := fun f hf => by
      rw [H f hf, show dt_fo (dt_cn s.1 24) a4 a5 f = 0 from dt_sm_0 (fun o ho => if_neg (fun z => by have := hu o ho; have := z.1; omega))]
      rfl
    have hF := dt_F_le H7
    refine pk_le 24 24 (fun _ => dt_counts0 hO hP ⟨by decide, br_t ?_ (br_f (nI_pos (by omega)) (br_t (nI_le (b := 40) (by omega) (by omega)) (dt_e74 G H7 hO hP h)))⟩) (fun z => absurd z (by omega))
    have t := pk_rem (a := 10 * dt_F s.2.2.1) (d := 10) (by omega) (by omega) (by omega)
    rw [show 10 * dt_F s.2.2.1 % 10 = 0 by omega] at t
    exact t
  · intro n i s hi ⟨I', hk⟩ hw
    have e3 : 6 * (i / 6) + i % 6 = i := by omega
    refine pk_le 24 i (fun z => absurd z (by omega)) (fun _ => ⟨by decide, by decide, ?_⟩)
    rw [show nI i - nI i / 6 * 6 = nI (i % 6) from pk_rem (d := 6) (by omega) (by omega) (by omega), show nI i / 6 = nI (i / 6) from pk_div (d := 6) (by omega) (by omega) (by omega)]
    refine dt_close I' (show i / 6 < 4 by omega) (show i % 6 < 6 by omega) (fun e => nm_r (nI_1 i) (hw s ⟨I', fun k hk' => ?_⟩)) (fun o ho e b3 b8 b11 b12 I2 => nm_r (nI_1 i) (hw (upd s.1 (6 * (i / 6) + i % 6) (-1), b3, b8, b11, b12) ⟨I2, fun k hk' => ?_⟩))
    · rw [e3] at e
      by_cases z : k = i
      · rw [z]; exact e
      · exact hk k (by omega)
    · show upd s.1 (6 * (i / 6) + i % 6) (-1) k = -1
      rw [e3]
      by_cases z : k = i
      · rw [z, pk_us]
      · rw [pk_un z]; exact hk k (by omega)
theorem dt_ended {post : Int32 → St1 → Prop} (I : dt_I lv a1 a2 a3 a4 a5 a6 a7 a8 a9 a11 a12) (h : ∀ u, post 1 u) : wpL_ended post (lv, a1, a2, a3, a4, a5, a6, a7, a8, a9, a10, a11, a12, a13, a14, a15) := by
  unfold wpL_ended
  refine pk_loop (σ := Int32 × (Nat → Int32) × (Nat → Int32) × (Nat → Int32) × (Nat → Int32) × (Nat → Int32) × (Nat → Int32))
    (fun n i s => wL_ended_2 post n (nI i) s.1 s.2.1 s.2.2.1 s.2.2.2.1 a4 a5 a6 a7 s.2.2.2.2.1 a9 a10 s.2.2.2.2.2.1 s.2.2.2.2.2.2 a13 a14 a15)
    (fun i s => dt_I s.1 s.2.1 s.2.2.1 s.2.2.2.1 a4 a5 a6 a7 s.2.2.2.2.1 a9 s.2.2.2.2.2.1 s.2.2.2.2.2.2)
    4 0 (lv, a1, a2, a3, a8, a11, a12) (by omega) I ?_ ?_
  · intro n s I'
    exact pk_le 4 4 (fun _ => dt_e21 I' h) (fun z => absurd z (by omega))
  · intro n i s hi I' hw
    exact pk_le 4 i (fun z => absurd z (by omega)) (fun _ => dt_exit I' hi (nm_r (nI_1 i) (hw s I')) (fun b2 b3 b8 b11 b12 I2 _ => nm_r (nI_1 i) (hw (_, _, b2, b3, b8, b11, b12) I2)))
end
end
section
/-- what the law's word says of a descriptor: the sort of its opening, 0 if it is free -/
def dt_kd (a2 a4 : Nat → Int32) (j : Nat) : Int32 := if a2 j < 0 then 0 else a4 (a2 j).toNatClampNeg
def dt_K (w : Int64) (a2 a4 : Nat → Int32) : Prop := ∀ j, j < 24 → nI (dt_g w j) = dt_kd a2 a4 j
/-- the ring of pipe 0 holds what was written and not yet seen -/
def dt_Q (wr se : Nat) (a13 a14 a15 : Nat → Int32) : Prop := se ≤ wr ∧ wr - se ≤ 6 ∧ a14 0 = nI (wr - se) ∧ ∃ st, st < 6 ∧ a13 0 = nI st ∧ ∀ k, k < wr - se → a15 ((st + k) % 6) = nI ((se + 1 + k) % 256)
def dt_V (b : Nat) (w : Int64) (wr se : Nat) (lv : Int32) (a1 a2 a3 a4 a5 a6 a7 a8 a9 a10 a11 a12 a13 a14 a15 : Nat → Int32) : Prop := dt_I lv a1 a2 a3 a4 a5 a6 a7 a8 a9 a11 a12 ∧ dt_K w a2 a4 ∧ dt_Q wr se a13 a14 a15 ∧ wr ≤ b
theorem dt_kd_n {a2 a4 : Nat → Int32} {j : Nat} (h : a2 j = -1) : dt_kd a2 a4 j = 0 := by
  unfold dt_kd
  rw [h]
  exact if_pos (by decide)
theorem dt_kd_o {a2 a4 : Nat → Int32} {j o : Nat} (ho : o < 24) (h : a2 j = nI o) : dt_kd a2 a4 j = a4 o := by
  unfold dt_kd
  rw [h, if_neg (nI_pos (by omega)), nI_clamp (by omega)]
theorem dt_kd_c {a2 b2 a4 : Nat → Int32} {i j : Nat} (h : b2 i = a2 j) : dt_kd b2 a4 i = dt_kd a2 a4 j := by
  unfold dt_kd
  rw [h]
theorem dt_kd_new {a2 a4 : Nat → Int32} {i j o : Nat} {s : Int32} (B : dt_B a2 24 24) (h0 : dt_cn a2 24 o = 0) (hi : i < 24) (hne : i ≠ j) : dt_kd (upd a2 j (nI o)) (upd a4 o s) i = dt_kd a2 a4 i := by
  rcases B i hi with e | ⟨o', ho', e⟩
  · rw [dt_kd_n e, dt_kd_n (by rw [pk_un hne]; exact e)]
  · have ho : o' ≠ o := fun z => by
      rw [z] at e
      have := dt_cn_pos hi e
      omega
    rw [dt_kd_o ho' e, dt_kd_o ho' (by rw [pk_un hne]; exact e), pk_un ho]
theorem dt_K_put {w : Int64} {a2 a4 b2 b4 : Nat → Int32} {j k : Nat} (K : dt_K w a2 a4) (hj : j < 24) (hk : k < 4) (h : ∀ i, i < 24 → i ≠ j → dt_kd b2 b4 i = dt_kd a2 a4 i) (hh : dt_kd b2 b4 j = nI k) : dt_K (dt_pt w (2 * j) k) b2 b4 := by
  intro i hi
  by_cases e : i = j
  · rw [e, dt_g_same w hj hk, hh]
  · rw [dt_g_other w hj hi hk e, h i hi e]
    exact K i hi
theorem dt_Q_st {wr se : Nat} {a13 a14 a15 : Nat → Int32} (Q : dt_Q wr se a13 a14 a15) : ∃ st, st < 6 ∧ a13 0 = nI st ∧ (0 < wr - se → a15 st = nI ((se + 1) % 256) ∧ dt_Q wr (se + 1) (upd a13 0 (nI ((st + 1) % 6))) (upd a14 0 (nI (wr - se - 1))) a15) ∧ (wr - se < 6 → dt_Q (wr + 1) se a13 (upd a14 0 (nI (wr - se + 1))) (upd a15 ((st + (wr - se)) % 6) (nI ((wr + 1) % 256)))) := by
  obtain ⟨h1, h2, h3, st, hst, e13, h4⟩ := Q
  refine ⟨st, hst, e13, fun hc => ⟨?_, ?_⟩, fun hc => ?_⟩
  · have t := h4 0 hc
    rw [Nat.add_zero, Nat.add_zero, Nat.mod_eq_of_lt hst] at t
    exact t
  · refine ⟨by omega, by omega, ?_, (st + 1) % 6, by omega, pk_us, fun k hk => ?_⟩
    · rw [pk_us]
      exact congrArg nI (by omega)
    · have t := h4 (k + 1) (by omega)
      rw [show ((st + 1) % 6 + k) % 6 = (st + (k + 1)) % 6 by omega, t]
      exact congrArg nI (by omega)
  · refine ⟨by omega, by omega, ?_, st, hst, e13, fun k hk => ?_⟩
    · rw [pk_us]
      exact congrArg nI (by omega)
    · by_cases z : k = wr - se
      · rw [z, pk_us]
        exact congrArg nI (by omega)
      · rw [pk_un (by omega)]
        exact h4 k (by omega)
theorem dt_P_1 {us : Nat → Nat} {a4 a11 a12 : Nat → Int32} (F : dt_Fl us a4 a11 a12) : dt_P a11 a12 = if a11 0 = 0 ∧ a12 0 = 0 then 0 else 1 := by
  have t := dt_sm_u (n := 24) (k := 0) (f := fun _ => 0) (g := fun p => if a11 p = 0 ∧ a12 p = 0 then 0 else 1) (by omega) (fun i hi hne => if_pos (F.2.2 i (by omega) hi))
  rw [dt_sm_0 (f := fun _ => 0) (fun _ _ => rfl)] at t
  simp only [Nat.add_zero, Nat.zero_add] at t
  exact t
def dt_HJ (J : Int64 → Int32 → Int32 → Int32 → Int32 → (Nat → Int32) → (Nat → Int32) → (Nat → Int32) → (Nat → Int32) → (Nat → Int32) → (Nat → Int32) → (Nat → Int32) → (Nat → Int32) → (Nat → Int32) → (Nat → Int32) → (Nat → Int32) → (Nat → Int32) → (Nat → Int32) → (Nat → Int32) → (Nat → Int32) → Prop) (i : Nat) : Prop := ∀ (w : Int64) (wr se : Nat) (lv : Int32) (a1 a2 a3 a4 a5 a6 a7 a8 a9 a10 a11 a12 a13 a14 a15 : Nat → Int32), dt_V (i + 3) w wr se lv a1 a2 a3 a4 a5 a6 a7 a8 a9 a10 a11 a12 a13 a14 a15 → J w (nI wr) (nI se) (nI (i + 3)) lv a1 a2 a3 a4 a5 a6 a7 a8 a9 a10 a11 a12 a13 a14 a15
section
variable {post : Int32 → Prop} {L : Nat} {xs : Nat → Int32} {J : Int64 → Int32 → Int32 → Int32 → Int32 → (Nat → Int32) → (Nat → Int32) → (Nat → Int32) → (Nat → Int32) → (Nat → Int32) → (Nat → Int32) → (Nat → Int32) → (Nat → Int32) → (Nat → Int32) → (Nat → Int32) → (Nat → Int32) → (Nat → Int32) → (Nat → Int32) → (Nat → Int32) → (Nat → Int32) → Prop} {i wr se k p d kc ks : Nat} {w : Int64}
variable {lv : Int32} {a1 a2 a3 a4 a5 a6 a7 a8 a9 a10 a11 a12 a13 a14 a15 : Nat → Int32}
theorem dt_go (hJ : dt_HJ J i) (I : dt_I lv a1 a2 a3 a4 a5 a6 a7 a8 a9 a11 a12) (K : dt_K w a2 a4) (Q : dt_Q wr se a13 a14 a15) (hw : wr ≤ i + 3) : ∀ y : Int32, y = nI i + 3 → J w (nI wr) (nI se) y lv a1 a2 a3 a4 a5 a6 a7 a8 a9 a10 a11 a12 a13 a14 a15 :=
  nm_r (nI_add i 3) (hJ w wr se lv a1 a2 a3 a4 a5 a6 a7 a8 a9 a10 a11 a12 a13 a14 a15 ⟨I, K, Q, hw⟩)
theorem dt_w547 (hJ : dt_HJ J i) (V : dt_V i w wr se lv a1 a2 a3 a4 a5 a6 a7 a8 a9 a10 a11 a12 a13 a14 a15) (hp : p < 4) (hd : d < 6) : wL_law_547 post L xs J w (nI wr) (nI se) (nI i) (nI k) (nI p) (nI d) kc ks lv a1 a2 a3 a4 a5 a6 a7 a8 a9 a10 a11 a12 a13 a14 a15 := by
  obtain ⟨I, K, Q, hw⟩ := V
  unfold wL_law_547
  rw [show nI d &&& 3 = nI (d % 2 ^ 2) from pk_andN (by omega) 2 (by decide)]
  exact br_c (fun _ => dt_link I hp (by omega) (fun r b7 b8 I' => dt_go hJ I' K Q (by omega))) (fun _ => dt_go hJ I K Q (by omega))
theorem dt_w483 (hJ : dt_HJ J i) (V : dt_V i w wr se lv a1 a2 a3 a4 a5 a6 a7 a8 a9 a10 a11 a12 a13 a14 a15) (hp : p < 4) (hd : d < 6) (hi : i < 1000) : wL_law_483 post L xs J w (nI wr) (nI se) (nI i) (nI k) (nI p) (nI d) (nI (dt_g w (6 * p + d))) kc ks lv a1 a2 a3 a4 a5 a6 a7 a8 a9 a10 a11 a12 a13 a14 a15 := by
  have V' := V
  obtain ⟨I, K, Q, hw⟩ := V
  unfold wL_law_483
  refine br_c (fun _ => dt_w547 hJ V' hp hd) (fun _ => br_c (fun _ => dt_w547 hJ V' hp hd) (fun _ => ?_))
  have hK := K (6 * p + d) (by omega)
  obtain ⟨st, hst, e13, hrd, hwr⟩ := dt_Q_st Q
  refine dt_read I hp hd hst e13 Q.2.1 Q.2.2.1 (fun r hr => br_t hr (dt_go hJ I K Q (by omega))) (fun o r b6 ho e e4 I' => br_c (fun _ => dt_go hJ I' K Q (by omega)) (fun _ => br_f ?_ (dt_go hJ I' K Q (by omega)))) (fun o ho e e4 hc => ?_)
  · rw [hK, dt_kd_o ho e, e4]
    decide
  · obtain ⟨e15, Q'⟩ := hrd hc
    rw [e15]
    refine br_f (nI_pos (by omega)) (br_t (by rw [hK, dt_kd_o ho e, e4]) (nm_r (nI_1 se) (br_f (nI_nlt (by omega) (by omega)) (br_t ?_ (dt_go hJ I K Q' (by omega))))))
    exact (pk_andN (n := se + 1) (by have := Q.1; omega) 8 (by decide)).symm
theorem dt_w458 {r : Int32} (hJ : dt_HJ J i) {g : Nat} (h0 : ¬ r = 0 → dt_V i w wr se lv a1 a2 a3 a4 a5 a6 a7 a8 a9 a10 a11 a12 a13 a14 a15) (h3 : r = 0 → g = 3 → dt_V (i + 3) w (wr + 1) se lv a1 a2 a3 a4 a5 a6 a7 a8 a9 a10 a11 a12 a13 a14 a15) (h1 : r = 0 → g ≠ 3 → dt_V i w wr se lv a1 a2 a3 a4 a5 a6 a7 a8 a9 a10 a11 a12 a13 a14 a15) (hg : g < 4) : wL_law_458 post L xs J w (nI wr) (nI se) (nI i) (nI g) r kc ks lv a1 a2 a3 a4 a5 a6 a7 a8 a9 a10 a11 a12 a13 a14 a15 := by
  unfold wL_law_458
  refine br_c (fun z => pk_eq g 3 (fun e => nm_r (nI_1 wr) ?_) (fun e => ?_)) (fun z => ?_)
  · obtain ⟨I, K, Q, hw⟩ := h3 z e
    exact dt_go hJ I K Q hw
  · obtain ⟨I, K, Q, hw⟩ := h1 z e
    exact dt_go hJ I K Q (by omega)
  · obtain ⟨I, K, Q, hw⟩ := h0 z
    exact dt_go hJ I K Q (by omega)
theorem dt_w411 (hJ : dt_HJ J i) (V : dt_V i w wr se lv a1 a2 a3 a4 a5 a6 a7 a8 a9 a10 a11 a12 a13 a14 a15) (hp : p < 4) (hd : d < 6) (hi : i < 1000) : wL_law_411 post L xs J w (nI wr) (nI se) (nI i) (nI k) (nI p) (nI d) (nI (dt_g w (6 * p + d))) kc ks lv a1 a2 a3 a4 a5 a6 a7 a8 a9 a10 a11 a12 a13 a14 a15 := by
  have V' := V
  obtain ⟨I, K, Q, hw⟩ := V
  unfold wL_law_411
  refine br_c (fun _ => dt_w483 hJ V' hp hd hi) (fun _ => br_c (fun _ => dt_w483 hJ V' hp hd hi) (fun _ => ?_))
  have hK := K (6 * p + d) (by omega)
  have hg := dt_g_lt w (6 * p + d)
  obtain ⟨st, hst, e13, hrd, hwr⟩ := dt_Q_st Q
  rw [nI_1]
  refine dt_write I hp hd hst e13 Q.2.1 Q.2.2.1 (fun r hr => br_f hr (dt_w458 hJ (fun _ => V') (fun z => absurd z hr) (fun z => absurd z hr) hg)) (fun o b6 b9 b10 ho e e4 I' => ?_) (fun o ho e e4 hc => ?_)
  · have hg1 : nI (dt_g w (6 * p + d)) = 1 := by rw [hK, dt_kd_o ho e, e4]
    have hg2 : dt_g w (6 * p + d) = 1 := (nI_eq (b := 1) (by omega) (by omega)).mp hg1
    exact br_t rfl (br_t hg1 (dt_w458 hJ (fun z => absurd rfl z) (fun _ z => absurd z (by omega)) (fun _ _ => ⟨I', K, Q, hw⟩) hg))
  · have hg1 : nI (dt_g w (6 * p + d)) = 3 := by rw [hK, dt_kd_o ho e, e4]
    have hg2 : dt_g w (6 * p + d) = 3 := (nI_eq (b := 3) (by omega) (by omega)).mp hg1
    have Q' := hwr hc
    rw [show nI (wr + 1) &&& 255 = nI ((wr + 1) % 256) from pk_andN (by omega) 8 (by decide)]
    have c := dt_w458 (a10 := a10) (post := post) (L := L) (xs := xs) (kc := kc) (ks := ks) (r := 0) hJ (w := w) (wr := wr) (se := se) (g := dt_g w (6 * p + d)) (fun z => absurd rfl z) (fun _ _ => (⟨I, K, Q', by omega⟩ : dt_V (i + 3) w (wr + 1) se lv a1 a2 a3 a4 a5 a6 a7 a8 a9 a10 a11 a12 a13 (upd a14 0 (nI (wr - se + 1))) (upd a15 ((st + (wr - se)) % 6) (nI ((wr + 1) % 256))))) (fun _ z => absurd hg2 z) hg
    exact br_t rfl (br_f (by rw [hg1]; decide) (br_t hg1 c))
theorem dt_w267 {z : Int32} (hJ : dt_HJ J i) (hp : p < 4) (hd : d < 6) (h : dt_V i (dt_pt w (2 * (6 * p + d)) 0) wr se lv a1 a2 a3 a4 a5 a6 a7 a8 a9 a10 a11 a12 a13 a14 a15) : wL_law_267 post L xs J w (nI wr) (nI se) (nI i) (nI p) (nI d) z z kc ks lv a1 a2 a3 a4 a5 a6 a7 a8 a9 a10 a11 a12 a13 a14 a15 := by
  obtain ⟨I, K, Q, hw⟩ := h
  unfold wL_law_267
  exact br_t rfl (dt_put (k := 0) hp hd (by omega) (dt_go hJ I K Q (by omega)))
theorem dt_w327 {c : Nat} (hJ : dt_HJ J i) (hp : p < 4) (hc : c < 4) (hpc : c ≠ p) (h : ∀ v, (∀ j, j < 24 → dt_g v j = if 6 * c ≤ j ∧ j < 6 * c + 6 then dt_g w (6 * p + (j - 6 * c)) else dt_g w j) → dt_V i v wr se lv a1 a2 a3 a4 a5 a6 a7 a8 a9 a10 a11 a12 a13 a14 a15) : ∃ n, wL_law_327 post L xs J (nI wr) (nI se) (nI i) (nI p) (nI c) kc ks lv a1 a2 a3 a4 a5 a6 a7 a8 a9 a10 a11 a12 a13 a14 a15 n w 0 := by
  refine pk_loop (σ := Int64) (fun n e v => wL_law_327 post L xs J (nI wr) (nI se) (nI i) (nI p) (nI c) kc ks lv a1 a2 a3 a4 a5 a6 a7 a8 a9 a10 a11 a12 a13 a14 a15 n v (nI e))
    (fun e v => ∀ j, j < 24 → dt_g v j = if 6 * c ≤ j ∧ j < 6 * c + e then dt_g w (6 * p + (j - 6 * c)) else dt_g w j) 6 0 w (by omega) (fun j _ => (if_neg (fun z => by omega)).symm) ?_ ?_
  · intro n v hv
    obtain ⟨I, K, Q, hw⟩ := h v hv
    exact pk_le 6 6 (fun _ => dt_go hJ I K Q (by omega)) (fun z => absurd z (by omega))
  · intro n e v he hv hw
    refine pk_le 6 e (fun z => absurd z (by omega)) (fun _ => br_f (nI_pos (by omega)) (dt_get hp he (dt_put hc he (dt_g_lt _ _) (nm_r (nI_1 e) (hw _ (fun j hj => ?_))))))
    by_cases z : j = 6 * c + e
    · rw [z, dt_g_same v (by omega) (dt_g_lt _ _), hv (6 * p + e) (by omega), if_neg (fun z => by omega), if_pos ⟨by omega, by omega⟩, show 6 * c + e - 6 * c = e by omega]
    · rw [dt_g_other v (by omega) hj (dt_g_lt _ _) z, hv j hj]
      by_cases y : 6 * c ≤ j ∧ j < 6 * c + e
      · rw [if_pos y, if_pos ⟨y.1, by omega⟩]
      · rw [if_neg y, if_neg (fun q => y ⟨q.1, by omega⟩)]
theorem dt_w299 (hJ : dt_HJ J i) (V : dt_V i w wr se lv a1 a2 a3 a4 a5 a6 a7 a8 a9 a10 a11 a12 a13 a14 a15) (hp : p < 4) : wL_law_299 post L xs J w (nI wr) (nI se) (nI i) (nI p) kc ks lv a1 a2 a3 a4 a5 a6 a7 a8 a9 a10 a11 a12 a13 a14 a15 := by
  obtain ⟨I, K, Q, hw⟩ := V
  unfold wL_law_299
  refine dt_counts (dt_fork I hp (fun r hr => dt_counts (br_t rfl ?_)) (fun c x b1 b2 b3 hc hpc I' hk hO => dt_counts (br_t (by rw [hO]) ?_)))
  · refine ⟨1, br_f (by decide) (br_t hr (dt_go hJ I K Q (by omega)))⟩
  · refine dt_w327 hJ hp hc hpc (fun v hv => ⟨I', fun j hj => ?_, Q, hw⟩)
    rw [hv j hj]
    by_cases y : 6 * c ≤ j ∧ j < 6 * c + 6
    · rw [if_pos y, K _ (by omega)]
      exact (dt_kd_c (by rw [hk j hj, if_pos y])).symm
    · rw [if_neg y, K j hj]
      exact (dt_kd_c (by rw [hk j hj, if_neg y])).symm
theorem dt_w196 (hJ : dt_HJ J i) (V : dt_V i w wr se lv a1 a2 a3 a4 a5 a6 a7 a8 a9 a10 a11 a12 a13 a14 a15) (hp : p < 4) (hd : d < 6) (hi : i < 1000) : wL_law_196 post L xs J w (nI wr) (nI se) (nI i) (nI k) (nI p) (nI d) (nI (dt_g w (6 * p + d))) kc ks lv a1 a2 a3 a4 a5 a6 a7 a8 a9 a10 a11 a12 a13 a14 a15 := by
  have V' := V
  obtain ⟨I, K, Q, hw⟩ := V
  have hK := K (6 * p + d) (by omega)
  have hg := dt_g_lt w (6 * p + d)
  have c411 : wL_law_411 post L xs J w (nI wr) (nI se) (nI i) (nI k) (nI p) (nI d) (nI (dt_g w (6 * p + d))) kc ks lv a1 a2 a3 a4 a5 a6 a7 a8 a9 a10 a11 a12 a13 a14 a15 := dt_w411 hJ V' hp hd hi
  have c299 : wL_law_299 post L xs J w (nI wr) (nI se) (nI i) (nI p) kc ks lv a1 a2 a3 a4 a5 a6 a7 a8 a9 a10 a11 a12 a13 a14 a15 := dt_w299 hJ V' hp
  unfold wL_law_196
  refine br_c (fun _ => ?_) (fun _ => br_c (fun _ => ?_) (fun _ => br_c (fun _ => c299) (fun _ => br_c (fun _ => c299) (fun _ => br_c (fun _ => br_c (fun _ => ?_) (fun _ => c411)) (fun _ => c411)))))
  · refine dt_dup I hp hd (fun r hr => br_t hr (dt_go hJ I K Q (by omega))) (fun e o b3 he ho eo ee I' => br_f (nI_pos (by omega)) (dt_put hp he hg (dt_go hJ I' (dt_K_put K (by omega) hg (fun j hj hne => dt_kd_c (pk_un hne)) ?_) Q (by omega))))
    rw [hK, dt_kd_o ho eo, dt_kd_o ho pk_us]
  · refine dt_close I hp hd (fun e => br_f (by decide) ?_) (fun o ho e b3 b8 b11 b12 I' => br_t rfl ?_)
    · have hz : nI (dt_g w (6 * p + d)) = 0 := by rw [hK, dt_kd_n e]
      unfold wL_law_257
      exact br_t hz (dt_w267 hJ hp hd ⟨I, dt_K_put K (by omega) (by omega) (fun _ _ _ => rfl) (dt_kd_n e), Q, hw⟩)
    · have hz : ¬ nI (dt_g w (6 * p + d)) = 0 := by
        rw [hK, dt_kd_o ho e]
        rcases I.1.2.2.2.1 o ho (dt_cn_pos (M := 24) (k := 6 * p + d) (by omega) e) with ⟨e4, _⟩ | ⟨e4 | e4, _⟩
        · rw [e4]; decide
        · rw [e4]; decide
        · rw [e4]; decide
      unfold wL_law_257
      exact br_f hz (dt_w267 hJ hp hd ⟨I', dt_K_put K (by omega) (by omega) (fun j hj hne => dt_kd_c (pk_un hne)) (dt_kd_n pk_us), Q, hw⟩)
  · refine dt_exit I hp (br_f (by decide) (dt_go hJ I K Q (by omega))) (fun b2 b3 b8 b11 b12 I' hk => br_t rfl ?_)
    rw [dt_cl_e hp]
    refine nm_e (dt_go hJ I' (fun j hj => ?_) Q (by omega))
    rw [dt_g_cl w hp hj]
    by_cases y : 6 * p ≤ j ∧ j < 6 * p + 6
    · rw [if_pos y, dt_kd_n (by rw [hk j hj, if_pos y])]
      rfl
    · rw [if_neg y, K j hj]
      exact (dt_kd_c (by rw [hk j hj, if_neg y])).symm
end
end
section
section
variable {post : Int32 → Prop} {L : Nat} {xs : Nat → Int32} {J : Int64 → Int32 → Int32 → Int32 → Int32 → (Nat → Int32) → (Nat → Int32) → (Nat → Int32) → (Nat → Int32) → (Nat → Int32) → (Nat → Int32) → (Nat → Int32) → (Nat → Int32) → (Nat → Int32) → (Nat → Int32) → (Nat → Int32) → (Nat → Int32) → (Nat → Int32) → (Nat → Int32) → (Nat → Int32) → Prop} {i wr se k p d kc ks : Nat} {w : Int64}
variable {lv : Int32} {a1 a2 a3 a4 a5 a6 a7 a8 a9 a10 a11 a12 a13 a14 a15 : Nat → Int32}
theorem dt_wopen (hJ : dt_HJ J i) (V : dt_V i w wr se lv a1 a2 a3 a4 a5 a6 a7 a8 a9 a10 a11 a12 a13 a14 a15) (hp : p < 4) (hd : d < 6) :
    wpX_open (fun r u => match u with | (xlv, x1, x2, x3, x4, x5, x6, x7, x8, x9, x10, x11, x12, x13, x14, x15) => ((r < 0 → (∀ y : Int32, y = nI i + 3 → (J w (nI wr) (nI se) y xlv x1 x2 x3 x4 x5 x6 x7 x8 x9 x10 x11 x12 x13 x14 x15))) ∧ (¬ r < 0 → (wpL_put (fun q => (∀ y : Int32, y = nI i + 3 → (J q (nI wr) (nI se) y xlv x1 x2 x3 x4 x5 x6 x7 x8 x9 x10 x11 x12 x13 x14 x15))) () w (nI p) r 1)))) (lv, a1, a2, a3, a4, a5, a6, a7, a8, a9, a10, a11, a12, a13, a14, a15) (nI p) (nI d &&& 3) := by
  obtain ⟨I, K, Q, hw⟩ := V
  rw [show nI d &&& 3 = nI (d % 2 ^ 2) from pk_andN (by omega) 2 (by decide)]
  refine dt_open I hp (by omega) (fun r hr => br_t hr (dt_go hJ I K Q (by omega))) (fun e o b3 b5 b6 b7 b8 b9 he ho je hu I' => br_f (nI_pos (by omega)) (dt_put (k := 1) hp he (by omega) (dt_go hJ I' (dt_K_put K (by omega) (by omega) (fun j hj hne => dt_kd_new I.1.2.1 hu hj hne) ?_) Q (by omega))))
  rw [dt_kd_o ho pk_us, pk_us]
  rfl
theorem dt_wpipe (hJ : dt_HJ J i) (V : dt_V i w wr se lv a1 a2 a3 a4 a5 a6 a7 a8 a9 a10 a11 a12 a13 a14 a15) (hp : p < 4) (n1 : a11 0 = 0) (n2 : a12 0 = 0) :
    wpX_pipe (fun r u => match u with | (xlv, x1, x2, x3, x4, x5, x6, x7, x8, x9, x10, x11, x12, x13, x14, x15) => ((r < 0 → (wL_law_156 post L xs J (nI wr) (nI se) (nI i) (nI p) r w kc ks xlv x1 x2 x3 x4 x5 x6 x7 x8 x9 x10 x11 x12 x13 x14 x15)) ∧ (¬ r < 0 → (wpL_put (fun q => (wL_law_156 post L xs J (nI wr) (nI se) (nI i) (nI p) r q kc ks xlv x1 x2 x3 x4 x5 x6 x7 x8 x9 x10 x11 x12 x13 x14 x15)) () w (nI p) (r >>> ((3 : Int32) &&& 31)) 2)))) (lv, a1, a2, a3, a4, a5, a6, a7, a8, a9, a10, a11, a12, a13, a14, a15) (nI p) := by
  obtain ⟨I, K, Q, hw⟩ := V
  refine dt_pipe I hp n1 n2 (fun r hr => br_t hr ?_) (fun r e o o' b3 b5 b6 b11 b12 hre he jr je ho ho' hne h0 h0' I' => br_f (nI_pos (by omega)) ?_)
  · unfold wL_law_156
    refine br_t hr ?_
    unfold wL_law_178
    exact br_t hr (dt_go hJ I K Q (by omega))
  · rw [show nI (8 * r + e) >>> ((3 : Int32) &&& 31) = nI ((8 * r + e) / 2 ^ 3) from pk_shrN (by omega) _ 3 (by decide), show (8 * r + e) / 2 ^ 3 = r by omega]
    refine dt_put (k := 2) hp (show r < 6 by omega) (by omega) ?_
    unfold wL_law_156
    rw [show nI (8 * r + e) &&& 7 = nI ((8 * r + e) % 2 ^ 3) from pk_andN (by omega) 3 (by decide), show (8 * r + e) % 2 ^ 3 = e by omega]
    refine br_f (nI_pos (by omega)) (dt_put (k := 3) hp he (by omega) ?_)
    unfold wL_law_178
    have u1 := dt_us_add (a2 := a2) (show 6 * p + r < 24 by omega) ho jr
    have hB : dt_B (upd a2 (6 * p + r) (nI o)) 24 24 := dt_B_u I.1.2.1 (Or.inr ⟨o, ho, rfl⟩)
    have K1 : dt_K (dt_pt w (2 * (6 * p + r)) 2) (upd a2 (6 * p + r) (nI o)) (upd a4 o 2) := dt_K_put K (by omega) (by omega) (fun j hj hne' => dt_kd_new I.1.2.1 h0 hj hne') (by rw [dt_kd_o ho pk_us, pk_us]; rfl)
    have h1 : dt_cn (upd a2 (6 * p + r) (nI o)) 24 o' = 0 := by rw [u1.1 o' ho' hne]; exact h0'
    have K2 : dt_K (dt_pt (dt_pt w (2 * (6 * p + r)) 2) (2 * (6 * p + e)) 3) (upd (upd a2 (6 * p + r) (nI o)) (6 * p + e) (nI o')) (upd (upd a4 o 2) o' 3) := dt_K_put K1 (by omega) (by omega) (fun j hj hne' => dt_kd_new hB h1 hj hne') (by rw [dt_kd_o ho' pk_us, pk_us]; rfl)
    refine br_f (nI_pos (by omega)) (dt_go hJ I' K2 ⟨Nat.le_refl _, by omega, ?_, 0, by omega, pk_us, fun m hm => absurd hm (by omega)⟩ (by omega))
    rw [pk_us, Nat.sub_self]
    rfl
theorem dt_w19 (hp1 : post 1) (hL : L ≤ 260) : ∀ (n i wr se : Nat) (w : Int64) (lv : Int32) (a1 a2 a3 a4 a5 a6 a7 a8 a9 a10 a11 a12 a13 a14 a15 : Nat → Int32), i ≤ L → L < i + n → dt_V i w wr se lv a1 a2 a3 a4 a5 a6 a7 a8 a9 a10 a11 a12 a13 a14 a15 → wL_law_19 post L xs kc ks n w (nI wr) (nI se) (nI i) lv a1 a2 a3 a4 a5 a6 a7 a8 a9 a10 a11 a12 a13 a14 a15 := by
  intro n
  induction n with
  | zero => exact fun i wr se w lv a1 a2 a3 a4 a5 a6 a7 a8 a9 a10 a11 a12 a13 a14 a15 h1 h2 => absurd h2 (by omega)
  | succ n ih =>
    intro i wr se w lv a1 a2 a3 a4 a5 a6 a7 a8 a9 a10 a11 a12 a13 a14 a15 h1 h2 V
    refine pk_lt L (i + 3) (fun _ => dt_ended V.1 (fun u => ?_)) (fun h3 => ?_) rfl (nI_add i 3) (by omega) (by omega)
    · obtain ⟨y0, y1, y2, y3, y4, y5, y6, y7, y8, y9, y10, y11, y12, y13, y14, y15⟩ := u
      exact hp1
    · have hJ : dt_HJ (wL_law_19 post L xs kc ks n) i := fun w wr se lv a1 a2 a3 a4 a5 a6 a7 a8 a9 a10 a11 a12 a13 a14 a15 V' => ih (i + 3) wr se w lv a1 a2 a3 a4 a5 a6 a7 a8 a9 a10 a11 a12 a13 a14 a15 h3 (by omega) V'
      obtain ⟨k, hk, ek⟩ := pk_andE (xs i) (m := 15) 4 (by decide)
      obtain ⟨p, hp, ep⟩ := pk_andE (xs (i + 1)) (m := 3) 2 (by decide)
      obtain ⟨y, hy, ey⟩ := pk_andE (xs (i + 2)) (m := 255) 8 (by decide)
      have hd : y % 6 < 6 := by omega
      rw [nI_1, show nI i + 2 = nI (i + 2) from nI_add i 2, nI_clamp (show i < 2 ^ 31 by omega), nI_clamp (show i + 1 < 2 ^ 31 by omega), nI_clamp (show i + 2 < 2 ^ 31 by omega), ek, ep, ey, show nI y - nI y / 6 * 6 = nI (y % 6) from pk_rem (d := 6) (by omega) (by omega) (by omega)]
      refine ⟨pk_in i L (by omega), nm_e ⟨pk_in (i + 1) L (by omega), nm_e ⟨pk_in (i + 2) L (by omega), by decide, nm_e (dt_get hp hd (br_c (fun _ => br_c (fun _ => dt_w196 hJ V hp hd (by omega)) (fun _ => dt_counts ⟨by decide, br_c (fun hz => ?_) (fun _ => dt_w196 hJ V hp hd (by omega))⟩)) (fun _ => dt_wopen hJ V hp hd)))⟩⟩⟩
      have hP := dt_P_1 V.1.2.1
      have hO : dt_O a3 ≤ 24 := dt_sm_b (fun o _ => by
        by_cases z : a3 o ≤ 0
        · simp only [if_pos z]; omega
        · simp only [if_neg z]; omega)
      have hF : dt_F a8 ≤ 28 := dt_sm_b (fun o _ => by
        by_cases z : a8 o ≤ 0
        · simp only [if_pos z]; omega
        · simp only [if_neg z]; omega)
      have hn : a11 0 = 0 ∧ a12 0 = 0 := by
        by_cases z : a11 0 = 0 ∧ a12 0 = 0
        · exact z
        · rw [if_neg z] at hP
          have t := pk_rem (a := 100 * dt_O a3 + 10 * dt_F a8 + dt_P a11 a12) (d := 10) (by omega) (by omega) (by omega)
          have t2 := t.symm.trans hz
          have t3 := (nI_eq (a := (100 * dt_O a3 + 10 * dt_F a8 + dt_P a11 a12) % 10) (b := 0) (by omega) (by omega)).mp t2
          omega
      exact dt_wpipe hJ V hp hn.1 hn.2
end
theorem dt_start {b2 b7 : Nat → Int32} (h2 : ∀ j, j < 24 → b2 j = -1) (h7 : ∀ j, j < 4 → b7 j = -1) : dt_V 0 0 0 0 1 (upd (fun _ => 0) 0 1) b2 (fun _ => 0) (fun _ => 0) (fun _ => 0) (fun _ => 0) b7 (fun _ => 0) (fun _ => 0) (fun _ => 0) (fun _ => 0) (fun _ => 0) (fun _ => 0) (fun _ => 0) (fun _ => 0) := by
  have hu : ∀ o, o < 24 → dt_cn b2 24 o = 0 := fun o ho => dt_cn_0 (by omega) h2
  have hR : ∀ (x : Int32) (a4 : Nat → Int32), ¬ dt_R (dt_cn b2 24) a4 x := fun x a4 ⟨o, ho, hz, _⟩ => by
    have := hu o ho
    omega
  refine ⟨⟨⟨⟨by decide, fun p hp _ d hd => h2 _ (by omega)⟩, fun j hj => Or.inl (h2 j hj), fun o ho => by rw [hu o ho]; rfl, fun o ho hz => ?_, fun o o' ho ho' hz => ?_, fun j hj => Or.inl (h7 j hj), fun f hf => ⟨0, by omega, rfl⟩⟩, ⟨⟨fun z => absurd rfl z, fun z => absurd z (hR _ _)⟩, ⟨fun z => absurd rfl z, fun z => absurd z (hR _ _)⟩, fun _ _ _ => ⟨rfl, rfl⟩⟩, fun f hf => ?_⟩, fun j hj => ?_, ⟨Nat.le_refl _, by omega, rfl, 0, by omega, rfl, fun k hk => absurd hk (by omega)⟩, Nat.le_refl _⟩
  · have := hu o ho
    omega
  · have := hu o ho
    omega
  · rw [dt_cn_0 (by omega) h7, show dt_fo (dt_cn b2 24) (fun _ => 0) (fun _ => 0) f = 0 from dt_sm_0 (fun o ho => if_neg (fun z => by have := hu o ho; have := z.1; omega))]
    rfl
  · rw [dt_g_0, dt_kd_n (h2 j hj)]
    rfl
theorem dt_fillm {s : Nat → Int32} {i : Nat} (h : ∀ j, j < i → s j = -1) : ∀ j, j < i + 1 → upd s i (-1) j = -1 := by
  intro j hj
  by_cases e : j = i
  · rw [e, pk_us]
  · rw [pk_un e]; exact h j (by omega)
theorem dt_init {post : St1 → Prop} {x : Int32} (h : ∀ b2 b7, (∀ j, j < 24 → b2 j = -1) → (∀ j, j < 4 → b7 j = -1) → post (1, upd (fun _ => 0) 0 1, b2, (fun _ => 0), (fun _ => 0), (fun _ => 0), (fun _ => 0), b7, (fun _ => 0), (fun _ => 0), (fun _ => 0), (fun _ => 0), (fun _ => 0), (fun _ => 0), (fun _ => 0), (fun _ => 0))) : wpX_init post 15 648 x := by
  unfold wpX_init
  refine ⟨by omega, by omega, by omega, by omega, by omega, by omega, by omega, by omega, by omega, by omega, by omega, by omega, by omega, by omega, by omega, by omega, by omega, by omega, by omega, by omega, by omega, by omega, by omega, by omega, by omega, by omega, by omega, by omega, by omega, by omega, ?_⟩
  refine pk_loop (σ := Nat → Int32) (fun n i s => wX_init_126 post 15 648 15 648 x n (nI i) (fun _ => 0) s (fun _ => 0) (fun _ => 0) (fun _ => 0) (fun _ => 0) (fun _ => 0) (fun _ => 0) (fun _ => 0) (fun _ => 0) (fun _ => 0) (fun _ => 0) (fun _ => 0) (fun _ => 0) (fun _ => 0))
    (fun i s => ∀ j, j < i → s j = -1) 24 0 (fun _ => 0) (by omega) (fun j hj => absurd hj (by omega)) (fun n s hs => pk_le 24 24 (fun _ => ?_) (fun z => absurd z (by omega))) (fun n i s hi hs hw => pk_le 24 i (fun z => absurd z (by omega)) (fun _ => ⟨pk_in i 24 hi, ?_⟩))
  · refine pk_loop (σ := Nat → Int32) (fun n i s7 => wX_init_147 post 15 648 15 648 x n (nI i) (fun _ => 0) s (fun _ => 0) (fun _ => 0) (fun _ => 0) (fun _ => 0) s7 (fun _ => 0) (fun _ => 0) (fun _ => 0) (fun _ => 0) (fun _ => 0) (fun _ => 0) (fun _ => 0) (fun _ => 0))
      (fun i s7 => ∀ j, j < i → s7 j = -1) 4 0 (fun _ => 0) (by omega) (fun j hj => absurd hj (by omega)) (fun n s7 hs7 => pk_le 4 4 (fun _ => nm_e (h s s7 hs hs7)) (fun z => absurd z (by omega))) (fun n i s7 hi hs7 hw => pk_le 4 i (fun z => absurd z (by omega)) (fun _ => ⟨pk_in i 4 hi, ?_⟩))
    rw [nI_clamp (show i < 2 ^ 31 by omega)]
    exact nm_e (nm_r (nI_1 i) (hw _ (dt_fillm hs7)))
  · rw [nI_clamp (show i < 2 ^ 31 by omega)]
    exact nm_e (nm_r (nI_1 i) (hw _ (dt_fillm hs)))
theorem i_vc (xs : Nat → Int32) (L : Nat) (hL : L ≤ 260) : wpL_law (fun r => r = 1) L xs := by
  refine ⟨15, 648, by omega, by omega, dt_init (fun b2 b7 h2 h7 => ⟨L + 1, ?_⟩)⟩
  exact dt_w19 (post := fun r => r = 1) rfl hL (L + 1) 0 0 0 0 1 _ _ _ _ _ _ _ _ _ _ _ _ _ _ _ (Nat.zero_le _) (by omega) (dt_start h2 h7)
end
