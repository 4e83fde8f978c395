section
/-! pictures of arrays: naturals; sums; what an assignment costs -/
def wc_up (s : Nat → Nat) (k x : Nat) : Nat → Nat := fun j => if j = k then x else s j
theorem wc_us {s : Nat → Nat} {k x : Nat} : wc_up s k x k = x := by
  unfold wc_up
  rw [if_pos rfl]
theorem wc_un {s : Nat → Nat} {k x j : Nat} (h : j ≠ k) : wc_up s k x j = s j := by
  unfold wc_up
  rw [if_neg h]
def wc_A (s : Nat → Nat) : Nat → Int32 := fun k => nI (s k)
theorem wc_Au (s : Nat → Nat) (k x : Nat) : upd (wc_A s) k (nI x) = wc_A (wc_up s k x) := by
  funext j
  by_cases h : j = k
  · rw [h, pk_us]
    show nI x = nI (wc_up s k x k)
    rw [wc_us]
  · rw [pk_un h]
    show nI (s j) = nI (wc_up s k x j)
    rw [wc_un h]
theorem wc_Ae (a : Nat → Int32) : ∃ s : Nat → Nat, a = wc_A s := by
  refine ⟨fun k => (a k).toBitVec.toNat, ?_⟩
  funext k
  show a k = Int32.ofNat ((a k).toBitVec.toNat)
  apply Int32.toBitVec_inj.1
  show (a k).toBitVec = BitVec.ofNat 32 ((a k).toBitVec.toNat)
  simp
/-- a place read -/
theorem wc_get {s : Nat → Nat} {x : Int32} (k : Nat) (hx : x = nI k) (hk : k < 2 ^ 31) : wc_A s x.toNatClampNeg = nI (s k) := by
  rw [hx, nI_clamp hk]
  rfl
/-- a place written -/
theorem wc_put {s : Nat → Nat} {x y : Int32} (k z : Nat) (hx : x = nI k) (hy : y = nI z) (hk : k < 2 ^ 31) : upd (wc_A s) x.toNatClampNeg y = wc_A (wc_up s k z) := by
  rw [hx, hy, nI_clamp hk, wc_Au]
/-- places -/
theorem wc_i3 (v a : Nat) : (3 : Int32) * nI v + nI a = nI (3 * v + a) := by
  show nI 3 * nI v + nI a = _
  rw [pk_mul, nI_add]
theorem wc_i3z (v : Nat) : (3 : Int32) * nI v = nI (3 * v) := by
  show nI 3 * nI v = _
  rw [pk_mul]
theorem wc_ic (u v a b : Nat) : ((((6 : Int32) * nI u + nI v) * 9 + 3 * nI a) + nI b) = nI ((6 * u + v) * 9 + 3 * a + b) := by
  show ((nI 6 * nI u + nI v) * nI 9 + nI 3 * nI a) + nI b = _
  rw [pk_mul, nI_add, pk_mul, pk_mul, nI_add, nI_add]
theorem wc_ie (j w b : Nat) : ((18 : Int32) * nI j + 3 * nI w) + nI b = nI (18 * j + 3 * w + b) := by
  show (nI 18 * nI j + nI 3 * nI w) + nI b = _
  rw [pk_mul, pk_mul, nI_add, nI_add]
theorem wc_ie2 (j w b : Nat) : (((18 : Int32) * nI j + 18) + 3 * nI w) + nI b = nI (18 * j + 18 + 3 * w + b) := by
  show ((nI 18 * nI j + nI 18) + nI 3 * nI w) + nI b = _
  rw [pk_mul, nI_add, pk_mul, nI_add, nI_add]
/-- a bit of a mask -/
theorem wc_sl : ∀ n, n < 32 → ((nI n &&& 31).toBitVec.smod 32).toNat = n := by decide +kernel
theorem wc_bit {m b : Nat} (hm : m ≤ 7) (hb : b < 32) : ((nI m >>> (nI b &&& 31)) &&& 1) = nI (m / 2 ^ b % 2) := by
  rw [pk_shrN (by omega) _ b (wc_sl b hb), pk_andN (by have := Nat.div_le_self m (2 ^ b); omega) 1 (by decide)]
theorem wc_bitE {A B : Prop} {m b : Nat} {x : Int32} (hm : m ≤ 7) (hb : b < 32) (f : m / 2 ^ b % 2 = 1 → A) (g : ¬ m / 2 ^ b % 2 = 1 → B) (hx : x = ((nI m >>> (nI b &&& 31)) &&& 1) := by rfl) : (x = 1 → A) ∧ (¬ x = 1 → B) := by
  rw [hx, wc_bit hm hb]
  exact pk_eq (m / 2 ^ b % 2) 1 f g
/-! sums -/
def wc_sm (f : Nat → Nat) : Nat → Nat
  | 0 => 0
  | n + 1 => wc_sm f n + f n
theorem wc_sm_s (f : Nat → Nat) (n : Nat) : wc_sm f (n + 1) = wc_sm f n + f n := rfl
theorem wc_sm_congr {f f' : Nat → Nat} : ∀ n, (∀ i, i < n → f' i = f i) → wc_sm f' n = wc_sm f n := by
  intro n
  induction n with
  | zero => exact fun _ => rfl
  | succ n ih =>
    intro h
    rw [wc_sm_s, wc_sm_s, ih (fun i hi => h i (by omega)), h n (by omega)]
theorem wc_sm_chg {f f' : Nat → Nat} {k x y : Nat} : ∀ n, k < n → (∀ i, i < n → i ≠ k → f' i = f i) → f' k + y = f k + x → wc_sm f' n + y = wc_sm f n + x := by
  intro n
  induction n with
  | zero => exact fun h => absurd h (by omega)
  | succ n ih =>
    intro hk h e
    rw [wc_sm_s, wc_sm_s]
    by_cases hn : k = n
    · subst hn
      rw [wc_sm_congr k (fun i hi => h i (by omega) (by omega))]
      omega
    · have := ih (by omega) (fun i hi => h i (by omega)) e
      rw [h n (by omega) (by omega)]
      omega
theorem wc_sm_pre {f : Nat → Nat} : ∀ n j, j ≤ n → wc_sm f j ≤ wc_sm f n := by
  intro n
  induction n with
  | zero =>
    intro j hj
    have : j = 0 := by omega
    rw [this]
    exact Nat.le_refl _
  | succ n ih =>
    intro j hj
    by_cases e : j = n + 1
    · rw [e]
      exact Nat.le_refl _
    · rw [wc_sm_s]
      have := ih j (by omega)
      omega
theorem wc_sm_le1 {f : Nat → Nat} {k n : Nat} (h : k < n) : f k ≤ wc_sm f n := by
  have := wc_sm_pre (f := f) n (k + 1) (by omega)
  rw [wc_sm_s] at this
  omega
theorem wc_sm_mono {f f' : Nat → Nat} : ∀ n, (∀ i, i < n → f i ≤ f' i) → wc_sm f n ≤ wc_sm f' n := by
  intro n
  induction n with
  | zero => exact fun _ => Nat.le_refl _
  | succ n ih =>
    intro h
    rw [wc_sm_s, wc_sm_s]
    have := ih (fun i hi => h i (by omega))
    have := h n (by omega)
    omega
theorem wc_sm_bd {f : Nat → Nat} {c : Nat} : ∀ n, (∀ i, i < n → f i ≤ c) → wc_sm f n ≤ n * c := by
  intro n
  induction n with
  | zero => exact fun _ => Nat.zero_le _
  | succ n ih =>
    intro h
    rw [wc_sm_s, Nat.succ_mul]
    have := ih (fun i hi => h i (by omega))
    have := h n (by omega)
    omega
/-! costs: X: value b of variable w behind the first j variables; R: the first n variables and the floor -/
def wc_X (s p g : Nat → Nat) (j w b : Nat) : Nat := s (3 * w + b) + wc_sm (fun i => p ((6 * i + w) * 9 + 3 * g i + b)) j
def wc_R (F : Nat) (s p g : Nat → Nat) (n : Nat) : Nat := F + wc_sm (fun v => wc_X s p g v v (g v)) n
def wc_ok (N D : Nat) (g : Nat → Nat) : Prop := ∀ v, v < N → g v < D
def wc_J (N D : Nat) (T : (Nat → Nat) → Nat) (F : Nat) (s p : Nat → Nat) : Prop := ∀ g, wc_ok N D g → wc_R F s p g N = T g
theorem wc_ok_up {N D : Nat} {g : Nat → Nat} {k x : Nat} (h : wc_ok N D g) (hx : x < D) : wc_ok N D (wc_up g k x) := by
  intro v hv
  by_cases e : v = k
  · rw [e, wc_us]
    exact hx
  · rw [wc_un e]
    exact h v hv
theorem wc_X_congr {s p g g' : Nat → Nat} {j w b : Nat} (h : ∀ i, i < j → g' i = g i) : wc_X s p g' j w b = wc_X s p g j w b := by
  unfold wc_X
  exact congrArg (fun z => s (3 * w + b) + z) (wc_sm_congr j (fun i hi => by show p ((6 * i + w) * 9 + 3 * g' i + b) = p ((6 * i + w) * 9 + 3 * g i + b); rw [h i hi]))
theorem wc_R_congr {F : Nat} {s p g g' : Nat → Nat} {n : Nat} (h : ∀ i, i < n → g' i = g i) : wc_R F s p g' n = wc_R F s p g n := by
  unfold wc_R
  exact congrArg (fun z => F + z) (wc_sm_congr n (fun i hi => by show wc_X s p g' i i (g' i) = wc_X s p g i i (g i); rw [h i hi, wc_X_congr (fun k hk => h k (by omega))]))
theorem wc_R_s {F : Nat} {s p g : Nat → Nat} {n : Nat} : wc_R F s p g (n + 1) = wc_R F s p g n + wc_X s p g n n (g n) := by
  unfold wc_R
  rw [wc_sm_s]
  omega
theorem wc_X_s {s p g : Nat → Nat} {j w b : Nat} : wc_X s p g (j + 1) w b = wc_X s p g j w b + p ((6 * j + w) * 9 + 3 * g j + b) := by
  unfold wc_X
  rw [wc_sm_s]
  omega
theorem wc_R_p {F N u v x y : Nat} {s p p' g : Nat → Nat} (hv : v < N) (hu : u < v) (ho : ∀ i w, w < N → i < w → ¬ (i = u ∧ w = v) → p' ((6 * i + w) * 9 + 3 * g i + g w) = p ((6 * i + w) * 9 + 3 * g i + g w)) (he : p' ((6 * u + v) * 9 + 3 * g u + g v) + y = p ((6 * u + v) * 9 + 3 * g u + g v) + x) : wc_R F s p' g N + y = wc_R F s p g N + x := by
  unfold wc_R
  have := wc_sm_chg (f := fun v => wc_X s p g v v (g v)) (f' := fun v => wc_X s p' g v v (g v)) (k := v) (x := x) (y := y) N hv
    (fun w hw hn => by
      show wc_X _ _ _ _ _ _ = wc_X _ _ _ _ _ _
      unfold wc_X
      rw [wc_sm_congr w (fun i hi => ho i w hw hi (fun z => hn z.2))])
    (by
      show wc_X _ _ _ _ _ _ + y = wc_X _ _ _ _ _ _ + x
      unfold wc_X
      have := wc_sm_chg (f := fun i => p ((6 * i + v) * 9 + 3 * g i + g v)) (f' := fun i => p' ((6 * i + v) * 9 + 3 * g i + g v)) (k := u) (x := x) (y := y) v hu
        (fun i hi hn => ho i v hv hi (fun z => hn z.1)) he
      omega)
  omega
theorem wc_R_c {F N v x y : Nat} {s s' p g : Nat → Nat} (hv : v < N) (ho : ∀ w, w < N → w ≠ v → s' (3 * w + g w) = s (3 * w + g w)) (he : s' (3 * v + g v) + y = s (3 * v + g v) + x) : wc_R F s' p g N + y = wc_R F s p g N + x := by
  unfold wc_R
  have := wc_sm_chg (f := fun v => wc_X s p g v v (g v)) (f' := fun v => wc_X s' p g v v (g v)) (k := v) (x := x) (y := y) N hv
    (fun w hw hn => by
      show wc_X _ _ _ _ _ _ = wc_X _ _ _ _ _ _
      unfold wc_X
      rw [ho w hw hn])
    (by
      show wc_X _ _ _ _ _ _ + y = wc_X _ _ _ _ _ _ + x
      unfold wc_X
      omega)
  omega
/-! the moves keep every total -/
theorem wc_Jlow {N D F u v a m : Nat} {T : (Nat → Nat) → Nat} {s s' p p' : Nat → Nat} (hN : N ≤ 6) (hD : D ≤ 3) (hv : v < N) (hu : u < v) (ha : a < D)
    (hp : ∀ b, b < D → p' ((6 * u + v) * 9 + 3 * a + b) + m = p ((6 * u + v) * 9 + 3 * a + b)) (hq : ∀ k, (∀ b, b < D → k ≠ (6 * u + v) * 9 + 3 * a + b) → p' k = p k)
    (hs : s' = wc_up s (3 * u + a) (s (3 * u + a) + m)) (h : wc_J N D T F s p) : wc_J N D T F s' p' := by
  intro g hg
  rw [← h g hg]
  subst hs
  have gu := hg u (by omega)
  have gv := hg v hv
  have o1 : ∀ i w, w < N → i < w → ¬ (i = u ∧ w = v) → p' ((6 * i + w) * 9 + 3 * g i + g w) = p ((6 * i + w) * 9 + 3 * g i + g w) := by
    intro i w hw hi hn
    have := hg i (by omega)
    have := hg w hw
    exact hq _ (fun b hb => by omega)
  have o2 : ∀ w, w < N → w ≠ u → wc_up s (3 * u + a) (s (3 * u + a) + m) (3 * w + g w) = s (3 * w + g w) := by
    intro w hw hn
    have := hg w hw
    exact wc_un (by omega)
  by_cases e : g u = a
  · have r1 : wc_R F s p' g N + m = wc_R F s p g N + 0 := wc_R_p hv hu o1 (by rw [e]; exact hp _ gv)
    have r2 : wc_R F (wc_up s (3 * u + a) (s (3 * u + a) + m)) p' g N + 0 = wc_R F s p' g N + m := wc_R_c (v := u) (by omega) o2 (by rw [e, wc_us]; rfl)
    omega
  · have r1 : wc_R F s p' g N + 0 = wc_R F s p g N + 0 := wc_R_p hv hu o1 (by rw [hq _ (fun b hb => by omega)])
    have r2 : wc_R F (wc_up s (3 * u + a) (s (3 * u + a) + m)) p' g N + 0 = wc_R F s p' g N + 0 := wc_R_c (v := u) (by omega) o2 (by rw [wc_un (by omega)])
    omega
theorem wc_Jrai {N D F u v b : Nat} {T : (Nat → Nat) → Nat} {s s' p p' : Nat → Nat} (hN : N ≤ 6) (hD : D ≤ 3) (hv : v < N) (hu : u < v) (hb : b < D)
    (hp : ∀ a, a < D → p' ((6 * u + v) * 9 + 3 * a + b) = p ((6 * u + v) * 9 + 3 * a + b) + s (3 * v + b)) (hq : ∀ k, (∀ a, a < D → k ≠ (6 * u + v) * 9 + 3 * a + b) → p' k = p k)
    (hs : s' = wc_up s (3 * v + b) 0) (h : wc_J N D T F s p) : wc_J N D T F s' p' := by
  intro g hg
  rw [← h g hg]
  subst hs
  have gu := hg u (by omega)
  have gv := hg v hv
  have o1 : ∀ i w, w < N → i < w → ¬ (i = u ∧ w = v) → p' ((6 * i + w) * 9 + 3 * g i + g w) = p ((6 * i + w) * 9 + 3 * g i + g w) := by
    intro i w hw hi hn
    have := hg i (by omega)
    have := hg w hw
    exact hq _ (fun a ha => by omega)
  have o2 : ∀ w, w < N → w ≠ v → wc_up s (3 * v + b) 0 (3 * w + g w) = s (3 * w + g w) := by
    intro w hw hn
    have := hg w hw
    exact wc_un (by omega)
  by_cases e : g v = b
  · have r1 : wc_R F s p' g N + 0 = wc_R F s p g N + s (3 * v + b) := wc_R_p hv hu o1 (by rw [e, hp _ gu]; rfl)
    have r2 : wc_R F (wc_up s (3 * v + b) 0) p' g N + s (3 * v + b) = wc_R F s p' g N + 0 := wc_R_c (v := v) hv o2 (by rw [e, wc_us]; omega)
    omega
  · have r1 : wc_R F s p' g N + 0 = wc_R F s p g N + 0 := wc_R_p hv hu o1 (by rw [hq _ (fun a ha => by omega)])
    have r2 : wc_R F (wc_up s (3 * v + b) 0) p' g N + 0 = wc_R F s p' g N + 0 := wc_R_c (v := v) hv o2 (by rw [wc_un (by omega)])
    omega
theorem wc_Jsin {N D F v m : Nat} {T : (Nat → Nat) → Nat} {s s' p : Nat → Nat} (hD : D ≤ 3) (hv : v < N)
    (hp : ∀ a, a < D → s' (3 * v + a) + m = s (3 * v + a)) (hq : ∀ k, (∀ a, a < D → k ≠ 3 * v + a) → s' k = s k) (h : wc_J N D T F s p) : wc_J N D T (F + m) s' p := by
  intro g hg
  rw [← h g hg]
  have r : wc_R F s' p g N + m = wc_R F s p g N + 0 := wc_R_c hv (fun w hw hn => by have := hg w hw; exact hq _ (fun a ha => by omega)) (hp _ (hg v hv))
  have e : wc_R (F + m) s' p g N = wc_R F s' p g N + m := by
    unfold wc_R
    omega
  omega
/-- what the totals bound -/
theorem wc_Jb {N D F M : Nat} {T : (Nat → Nat) → Nat} {s p : Nat → Nat} (hD : 0 < D) (h : wc_J N D T F s p) (hT : ∀ g, wc_ok N D g → T g ≤ M) :
    F ≤ M ∧ (∀ v b, v < N → b < D → s (3 * v + b) ≤ M) ∧ (∀ u v a b, v < N → u < v → a < D → b < D → p ((6 * u + v) * 9 + 3 * a + b) ≤ M) := by
  have k0 : wc_ok N D (fun _ => 0) := fun v hv => hD
  refine ⟨?_, fun v b hv hb => ?_, fun u v a b hv hu ha hb => ?_⟩
  · have := hT _ k0
    rw [← h _ k0] at this
    unfold wc_R at this
    omega
  · have k1 : wc_ok N D (wc_up (fun _ => 0) v b) := wc_ok_up k0 hb
    have := hT _ k1
    rw [← h _ k1] at this
    unfold wc_R at this
    have q := wc_sm_le1 (f := fun w => wc_X s p (wc_up (fun _ => 0) v b) w w (wc_up (fun _ => 0) v b w)) hv
    rw [wc_us] at q
    unfold wc_X at q this
    omega
  · have k1 : wc_ok N D (wc_up (wc_up (fun _ => 0) v b) u a) := wc_ok_up (wc_ok_up k0 hb) ha
    have := hT _ k1
    rw [← h _ k1] at this
    have q := wc_sm_le1 (f := fun w => wc_X s p (wc_up (wc_up (fun _ => 0) v b) u a) w w (wc_up (wc_up (fun _ => 0) v b) u a w)) hv
    rw [wc_un (show v ≠ u by omega), wc_us] at q
    have q2 := wc_sm_le1 (f := fun i => p ((6 * i + v) * 9 + 3 * (wc_up (wc_up (fun _ => 0) v b) u a) i + b)) hu
    rw [wc_us] at q2
    have q3 : wc_X s p (wc_up (wc_up (fun _ => 0) v b) u a) v v b = s (3 * v + b) + wc_sm (fun i => p ((6 * i + v) * 9 + 3 * (wc_up (wc_up (fun _ => 0) v b) u a) i + b)) v := rfl
    unfold wc_R at this
    omega
end
section
/-! the tables' own total, and what its masks say -/
def wc_s0 (U mk : Nat → Nat) : Nat → Nat := fun k => if mk (k / 3) / 2 ^ (k % 3) % 2 = 1 ∧ U k ≠ 99 then U k else 1000000
def wc_p0 (B : Nat → Nat) : Nat → Nat := fun k => if B k = 99 then 1000000 else B k
def wc_T (N : Nat) (U B mk : Nat → Nat) (g : Nat → Nat) : Nat := wc_R 0 (wc_s0 U mk) (wc_p0 B) g N
theorem wc_s0_bd {U mk : Nat → Nat} (hU : ∀ k, U k ≤ 99) (k : Nat) : wc_s0 U mk k ≤ 1000000 := by
  unfold wc_s0
  have := hU k
  split <;> omega
theorem wc_p0_bd {B : Nat → Nat} (hB : ∀ k, B k ≤ 99) (k : Nat) : wc_p0 B k ≤ 1000000 := by
  unfold wc_p0
  have := hB k
  split <;> omega
theorem wc_T_bd {N : Nat} {U B mk : Nat → Nat} (hN : N ≤ 6) (hU : ∀ k, U k ≤ 99) (hB : ∀ k, B k ≤ 99) (g : Nat → Nat) : wc_T N U B mk g ≤ 36000000 := by
  unfold wc_T wc_R
  have h1 : ∀ v, v < N → wc_X (wc_s0 U mk) (wc_p0 B) g v v (g v) ≤ 6000000 := by
    intro v hv
    unfold wc_X
    have a := wc_s0_bd (mk := mk) hU (3 * v + g v)
    have b := wc_sm_bd (f := fun i => wc_p0 B ((6 * i + v) * 9 + 3 * g i + g v)) (c := 1000000) v (fun i _ => wc_p0_bd hB _)
    omega
  have h2 := wc_sm_bd (f := fun v => wc_X (wc_s0 U mk) (wc_p0 B) g v v (g v)) (c := 6000000) N h1
  omega
theorem wc_T_congr {N : Nat} {U B mk : Nat → Nat} {g g' : Nat → Nat} (h : ∀ i, i < N → g' i = g i) : wc_T N U B mk g' = wc_T N U B mk g := wc_R_congr h
theorem wc_T_mk {N : Nat} {U B mk mk' : Nat → Nat} {g : Nat → Nat} (hg : ∀ v, v < N → g v < 3) (h : ∀ v, v < N → (mk' v / 2 ^ g v % 2 = 1 ↔ mk v / 2 ^ g v % 2 = 1)) : wc_T N U B mk' g = wc_T N U B mk g := by
  unfold wc_T wc_R
  rw [wc_sm_congr N (fun v hv => ?_)]
  show wc_X _ _ _ _ _ _ = wc_X _ _ _ _ _ _
  unfold wc_X
  have e : wc_s0 U mk' (3 * v + g v) = wc_s0 U mk (3 * v + g v) := by
    unfold wc_s0
    have := hg v hv
    rw [show (3 * v + g v) / 3 = v by omega, show (3 * v + g v) % 3 = g v by omega]
    have q := h v hv
    by_cases c : mk v / 2 ^ g v % 2 = 1
    · have c' := q.mpr c
      by_cases d : U (3 * v + g v) = 99
      · rw [if_neg (fun z => z.2 d), if_neg (fun z => z.2 d)]
      · rw [if_pos ⟨c', d⟩, if_pos ⟨c, d⟩]
    · rw [if_neg (fun z => c (q.mp z.1)), if_neg (fun z => c z.1)]
  rw [e]
theorem wc_T_mask {N v : Nat} {U B mk : Nat → Nat} {g : Nat → Nat} (hv : v < N) (hg : g v < 3) (h : ¬ mk v / 2 ^ g v % 2 = 1) : 1000000 ≤ wc_T N U B mk g := by
  unfold wc_T wc_R
  have q := wc_sm_le1 (f := fun w => wc_X (wc_s0 U mk) (wc_p0 B) g w w (g w)) hv
  unfold wc_X at q
  have e : wc_s0 U mk (3 * v + g v) = 1000000 := by
    unfold wc_s0
    rw [show (3 * v + g v) / 3 = v by omega, show (3 * v + g v) % 3 = g v by omega, if_neg (fun z => h z.1)]
  rw [e] at q
  unfold wc_X
  omega
/-- one variable held to one value -/
theorem wc_and8 : ∀ m, m < 8 → ∀ x, x < 3 → ∀ b, b < 3 → ((m &&& 2 ^ x) / 2 ^ b % 2 = 1 ↔ (m / 2 ^ b % 2 = 1 ∧ b = x)) := by decide +kernel
theorem wc_T_one {N v x : Nat} {U B mk : Nat → Nat} {g : Nat → Nat} (hm : ∀ k, mk k ≤ 7) (hg : ∀ v, v < N → g v < 3) (hv : v < N) (hx : x < 3) (e : g v = x) : wc_T N U B (wc_up mk v (mk v &&& 2 ^ x)) g = wc_T N U B mk g := by
  refine wc_T_mk hg (fun w hw => ?_)
  by_cases c : w = v
  · subst c
    rw [wc_us, wc_and8 (mk w) (by have := hm w; omega) x hx (g w) (hg w hw)]
    exact ⟨fun z => z.1, fun z => ⟨z, e⟩⟩
  · rw [wc_un c]
theorem wc_T_two {N v x : Nat} {U B mk : Nat → Nat} {g : Nat → Nat} (hm : ∀ k, mk k ≤ 7) (hg : ∀ v, v < N → g v < 3) (hv : v < N) (hx : x < 3) (e : g v ≠ x) : 1000000 ≤ wc_T N U B (wc_up mk v (mk v &&& 2 ^ x)) g := by
  refine wc_T_mask hv (hg v hv) (fun z => ?_)
  rw [wc_us, wc_and8 (mk v) (by have := hm v; omega) x hx (g v) (hg v hv)] at z
  exact e z.2
/-! the tree of assignments: its leaves in the order of the search -/
def wc_lv (T : (Nat → Nat) → Nat) (D : Nat) : Nat → Nat → (Nat → Nat) → List Nat
  | 0, _, g => [T g]
  | r + 1, j, g => (List.range D).flatMap (fun x => wc_lv T D r (j + 1) (wc_up g j x))
def wc_sb (T : (Nat → Nat) → Nat) (D r j : Nat) (g : Nat → Nat) (x : Nat) : List Nat := (List.range' x (D - x)).flatMap (fun y => wc_lv T D r (j + 1) (wc_up g j y))
theorem wc_lv_0 {T : (Nat → Nat) → Nat} {D j : Nat} {g : Nat → Nat} : wc_lv T D 0 j g = [T g] := by
  rw [wc_lv]
theorem wc_lv_s {T : (Nat → Nat) → Nat} {D r j : Nat} {g : Nat → Nat} : wc_lv T D (r + 1) j g = wc_sb T D r j g 0 := by
  rw [wc_lv, wc_sb, List.range_eq_range', Nat.sub_zero]
theorem wc_sb_e {T : (Nat → Nat) → Nat} {D r j : Nat} {g : Nat → Nat} : wc_sb T D r j g D = [] := by
  rw [wc_sb, Nat.sub_self]
  rfl
theorem wc_sb_s {T : (Nat → Nat) → Nat} {D r j x : Nat} {g : Nat → Nat} (h : x < D) : wc_sb T D r j g x = wc_lv T D r (j + 1) (wc_up g j x) ++ wc_sb T D r j g (x + 1) := by
  rw [wc_sb, wc_sb, show D - x = (D - (x + 1)) + 1 by omega, List.range'_succ, List.flatMap_cons]
theorem wc_lv_of {T : (Nat → Nat) → Nat} {D : Nat} : ∀ r j g c, c ∈ wc_lv T D r j g → ∃ f, (∀ i, i < j → f i = g i) ∧ (∀ i, j ≤ i → i < j + r → f i < D) ∧ (∀ i, j + r ≤ i → f i = g i) ∧ c = T f := by
  intro r
  induction r with
  | zero =>
    intro j g c h
    rw [wc_lv_0, List.mem_singleton] at h
    exact ⟨g, fun _ _ => rfl, fun i h1 h2 => absurd h2 (by omega), fun _ _ => rfl, h⟩
  | succ r ih =>
    intro j g c h
    rw [wc_lv, List.mem_flatMap] at h
    obtain ⟨x, hx, hc⟩ := h
    rw [List.mem_range] at hx
    obtain ⟨f, f1, f2, f3, f4⟩ := ih (j + 1) (wc_up g j x) c hc
    refine ⟨f, fun i hi => ?_, fun i h1 h2 => ?_, fun i hi => ?_, f4⟩
    · rw [f1 i (by omega), wc_un (by omega)]
    · by_cases e : i = j
      · subst e
        rw [f1 i (by omega), wc_us]
        exact hx
      · exact f2 i (by omega) (by omega)
    · rw [f3 i (by omega), wc_un (by omega)]
theorem wc_lv_in {T : (Nat → Nat) → Nat} {D : Nat} : ∀ r j g f, (∀ h h' : Nat → Nat, (∀ i, i < j + r → h i = h' i) → T h = T h') → (∀ i, i < j → f i = g i) → (∀ i, j ≤ i → i < j + r → f i < D) → T f ∈ wc_lv T D r j g := by
  intro r
  induction r with
  | zero =>
    intro j g f hT h1 h2
    rw [wc_lv_0, List.mem_singleton]
    exact hT f g (fun i hi => h1 i (by omega))
  | succ r ih =>
    intro j g f hT h1 h2
    rw [wc_lv, List.mem_flatMap]
    refine ⟨f j, List.mem_range.mpr (h2 j (by omega) (by omega)), ih (j + 1) _ f (fun h h' e => hT h h' (fun i hi => e i (by omega))) (fun i hi => ?_) (fun i a b => h2 i (by omega) (by omega))⟩
    by_cases e : i = j
    · rw [e, wc_us]
    · rw [wc_un e, h1 i (by omega)]
theorem wc_lv_ok {T : (Nat → Nat) → Nat} {N D r j c : Nat} {g : Nat → Nat} (hj : j + r = N) (hg : wc_ok N D g) (h : c ∈ wc_lv T D r j g) : ∃ f, wc_ok N D f ∧ (∀ i, i < j → f i = g i) ∧ c = T f := by
  obtain ⟨f, f1, f2, f3, f4⟩ := wc_lv_of r j g c h
  refine ⟨f, fun v hv => ?_, f1, f4⟩
  by_cases e : v < j
  · rw [f1 v e]
    exact hg v hv
  · exact f2 v (by omega) (by omega)
/-! what arriving at a leaf does: the cut and the count -/
def wc_ar (cg : Int32) (st : Nat × Nat) (c : Nat) : Nat × Nat := if c < st.1 then (if cg = 0 then (c, st.2) else (st.1, st.2 + 1)) else st
theorem wc_ar_n {cg : Int32} {st : Nat × Nat} {c : Nat} (h : st.1 ≤ c) : wc_ar cg st c = st := by
  unfold wc_ar
  rw [if_neg (by omega)]
theorem wc_ar_0 {st : Nat × Nat} {c : Nat} (h : c < st.1) : wc_ar 0 st c = (c, st.2) := by
  unfold wc_ar
  rw [if_pos h, if_pos rfl]
theorem wc_ar_1 {cg : Int32} {st : Nat × Nat} {c : Nat} (hc : ¬ cg = 0) (h : c < st.1) : wc_ar cg st c = (st.1, st.2 + 1) := by
  unfold wc_ar
  rw [if_pos h, if_neg hc]
theorem wc_fo_n {cg : Int32} {st : Nat × Nat} : ∀ l : List Nat, (∀ c, c ∈ l → st.1 ≤ c) → l.foldl (wc_ar cg) st = st := by
  intro l
  induction l with
  | nil => exact fun _ => rfl
  | cons c l ih =>
    intro h
    rw [List.foldl_cons, wc_ar_n (h c (List.mem_cons_self ..))]
    exact ih (fun c' hc' => h c' (List.mem_cons_of_mem _ hc'))
theorem wc_ar_le {cg : Int32} {st : Nat × Nat} {c : Nat} : (wc_ar cg st c).1 ≤ st.1 := by
  by_cases h : c < st.1
  · by_cases e : cg = 0
    · rw [e, wc_ar_0 h]
      exact Nat.le_of_lt h
    · rw [wc_ar_1 e h]
      exact Nat.le_refl _
  · rw [wc_ar_n (by omega)]
    exact Nat.le_refl _
theorem wc_fo_le {cg : Int32} : ∀ (l : List Nat) (st : Nat × Nat), (l.foldl (wc_ar cg) st).1 ≤ st.1 := by
  intro l
  induction l with
  | nil => exact fun st => Nat.le_refl _
  | cons c l ih =>
    intro st
    rw [List.foldl_cons]
    exact Nat.le_trans (ih _) wc_ar_le
theorem wc_fo_0 : ∀ (l : List Nat) (st : Nat × Nat), (∀ c, c ∈ l → (l.foldl (wc_ar 0) st).1 ≤ c) ∧ ((l.foldl (wc_ar 0) st).1 = st.1 ∨ (l.foldl (wc_ar 0) st).1 ∈ l) := by
  intro l
  induction l with
  | nil => exact fun st => ⟨fun c h => absurd h (List.not_mem_nil), Or.inl rfl⟩
  | cons c l ih =>
    intro st
    rw [List.foldl_cons]
    obtain ⟨h1, h2⟩ := ih (wc_ar 0 st c)
    have h3 := wc_fo_le (cg := 0) l (wc_ar 0 st c)
    by_cases h : c < st.1
    · rw [wc_ar_0 h] at h1 h2 h3 ⊢
      refine ⟨fun c' hc' => ?_, ?_⟩
      · rcases List.mem_cons.mp hc' with e | e
        · rw [e]
          exact h3
        · exact h1 c' e
      · rcases h2 with e | e
        · right
          rw [e]
          exact List.mem_cons_self ..
        · exact Or.inr (List.mem_cons_of_mem _ e)
    · rw [wc_ar_n (by omega)] at h1 h2 h3 ⊢
      refine ⟨fun c' hc' => ?_, ?_⟩
      · rcases List.mem_cons.mp hc' with e | e
        · rw [e]
          omega
        · exact h1 c' e
      · rcases h2 with e | e
        · exact Or.inl e
        · exact Or.inr (List.mem_cons_of_mem _ e)
def wc_ct (l : List Nat) (b : Nat) : Nat := (l.filter (fun c => decide (c < b))).length
theorem wc_fo_1 {cg : Int32} (hc : ¬ cg = 0) : ∀ (l : List Nat) (st : Nat × Nat), l.foldl (wc_ar cg) st = (st.1, st.2 + wc_ct l st.1) := by
  intro l
  induction l with
  | nil => exact fun st => rfl
  | cons c l ih =>
    intro st
    rw [List.foldl_cons, ih]
    unfold wc_ct
    by_cases h : c < st.1
    · rw [wc_ar_1 hc h, List.filter_cons_of_pos (by exact decide_eq_true h), List.length_cons]
      show (st.1, st.2 + 1 + _) = _
      rw [Nat.add_assoc, Nat.add_comm 1]
    · rw [wc_ar_n (by omega), List.filter_cons_of_neg (by simpa using h)]
theorem wc_ct_0 {l : List Nat} {b : Nat} (h : ∀ c, c ∈ l → b ≤ c) : wc_ct l b = 0 := by
  unfold wc_ct
  rw [List.length_eq_zero_iff, List.filter_eq_nil_iff]
  intro c hc
  have := h c hc
  simp
  omega
/-- the least total, 500000 if there is none below -/
def wc_Bst (T : (Nat → Nat) → Nat) (N D c : Nat) : Prop := c ≤ 500000 ∧ (∀ f, wc_ok N D f → c ≤ T f) ∧ (c = 500000 ∨ ∃ f, wc_ok N D f ∧ T f = c)
theorem wc_Bst_u {T : (Nat → Nat) → Nat} {N D c c' : Nat} (h : wc_Bst T N D c) (h' : wc_Bst T N D c') : c = c' := by
  obtain ⟨a1, a2, a3⟩ := h
  obtain ⟨b1, b2, b3⟩ := h'
  rcases a3 with e | ⟨f, k, e⟩
  · rcases b3 with e' | ⟨f', k', e'⟩
    · omega
    · have := a2 f' k'
      omega
  · have := b2 f k
    rcases b3 with e' | ⟨f', k', e'⟩
    · omega
    · have := a2 f' k'
      omega
theorem wc_Bst_of {T : (Nat → Nat) → Nat} {N D : Nat} (hD : 0 < D) (hT : ∀ h h' : Nat → Nat, (∀ i, i < N → h i = h' i) → T h = T h') (k : Nat) :
    wc_Bst T N D ((wc_lv T D N 0 (fun _ => 0)).foldl (wc_ar 0) (500000, k)).1 := by
  have h0 := wc_fo_0 (wc_lv T D N 0 (fun _ => 0)) (500000, k)
  have h1 := wc_fo_le (cg := 0) (wc_lv T D N 0 (fun _ => 0)) (500000, k)
  refine ⟨h1, fun f hf => h0.1 _ (wc_lv_in N 0 _ f (fun h h' e => hT h h' (fun i hi => e i (by omega))) (fun i hi => absurd hi (by omega)) (fun i _ hi => hf i (by omega))), ?_⟩
  rcases h0.2 with e | e
  · exact Or.inl e
  · obtain ⟨f, f1, _, f3⟩ := wc_lv_ok (N := N) (by omega) (fun v hv => hD) e
    exact Or.inr ⟨f, f1, f3.symm⟩
theorem wc_ct_z {T : (Nat → Nat) → Nat} {N D b : Nat} (hD : 0 < D) (h : ∀ f, wc_ok N D f → b ≤ T f) : wc_ct (wc_lv T D N 0 (fun _ => 0)) b = 0 := by
  refine wc_ct_0 (fun c hc => ?_)
  obtain ⟨f, f1, _, f3⟩ := wc_lv_ok (N := N) (by omega) (fun v hv => hD) hc
  rw [f3]
  exact h f f1
end
section
/-! walks: openMasks, sink, lower, raise, prepare -/
section
variable {fn fd fl cu ab co cg l1 l2 l3 l4 : Int32} {a1 a2 a3 a4 a5 a6 a7 a8 a9 a10 : Nat → Int32}
theorem wc_d3 {i : Nat} (h : i < 2 ^ 31) : nI i / 3 = nI (i / 3) := pk_div h (by decide) (by decide)
theorem wc_r3 {i : Nat} (h : i < 2 ^ 31) : nI i - nI i / 3 * 3 = nI (i % 3) := pk_rem h (by decide) (by decide)
theorem wc_cellw {post : Int32 → Prop} (u v a b : Nat) (h : post (nI ((6 * u + v) * 9 + 3 * a + b))) : wpX_cell post () (nI u) (nI v) (nI a) (nI b) := by
  unfold wpX_cell
  rw [wc_ic]
  exact h
theorem wc_open {post : St2 → Prop} {N : Nat} {A mk : Nat → Nat} (hN : N ≤ 6) (H : ∀ mk', (∀ v, v < N → mk' v = A v) → (∀ v, ¬ v < N → mk' v = mk v) → post (nI N, fd, fl, cu, ab, co, cg, l1, l2, l3, l4, a1, a2, wc_A A, wc_A mk', a5, a6, a7, a8, a9, a10)) :
    wpX_openMasks post (nI N, fd, fl, cu, ab, co, cg, l1, l2, l3, l4, a1, a2, wc_A A, wc_A mk, a5, a6, a7, a8, a9, a10) := by
  unfold wpX_openMasks
  refine pk_loop (fun n i s => wX_openMasks_2 post (nI N) fd fl cu ab co cg l1 l2 l3 l4 n (nI i) a1 a2 (wc_A A) (wc_A s) a5 a6 a7 a8 a9 a10) (fun i s => (∀ v, v < i → s v = A v) ∧ (∀ v, ¬ v < i → s v = mk v)) N 0 mk (by omega) ⟨fun v hv => absurd hv (by omega), fun v _ => rfl⟩
    (fun n s h => pk_le N N (fun _ => H s h.1 h.2) (fun z => absurd z (by omega)))
    (fun n i s hi h hw => pk_le N i (fun z => absurd z (by omega)) (fun _ => ⟨pk_in i 6 (by omega), pk_in i 6 (by omega), nm_r (wc_put i (A i) rfl (wc_get i rfl (by omega)) (by omega)) (nm_r (nI_1 i) (hw _ ⟨?_, ?_⟩))⟩))
  · intro v hv
    by_cases e : v = i
    · rw [e, wc_us]
    · rw [wc_un e]
      exact h.1 v (by omega)
  · intro v hv
    rw [wc_un (by omega)]
    exact h.2 v (by omega)
theorem wc_sink56 {post : St2 → Prop} {D F v m : Nat} {s : Nat → Nat} (hv : v < 6) (hD3 : D ≤ 3) (hm : ∀ b, b < D → m ≤ s (3 * v + b))
    (H : ∀ m s', (∀ b, b < D → s' (3 * v + b) + m = s (3 * v + b)) → (∀ k, (∀ b, b < D → k ≠ 3 * v + b) → s' k = s k) → post (fn, nI D, nI (F + m), cu, ab, co, cg, l1, l2, l3, l4, a1, a2, a3, a4, wc_A s', a6, a7, a8, a9, a10)) :
    ∃ n, wX_sink_56 post (nI v) (nI m) fn (nI D) (nI F) cu ab co cg l1 l2 l3 l4 n 0 a1 a2 a3 a4 (wc_A s) a6 a7 a8 a9 a10 := by
  refine pk_loop (fun n i t => wX_sink_56 post (nI v) (nI m) fn (nI D) (nI F) cu ab co cg l1 l2 l3 l4 n (nI i) a1 a2 a3 a4 (wc_A t) a6 a7 a8 a9 a10) (fun i t => (∀ b, b < i → t (3 * v + b) + m = s (3 * v + b)) ∧ (∀ k, (∀ b, b < i → k ≠ 3 * v + b) → t k = s k)) D 0 s (by omega) ⟨fun b hb => absurd hb (by omega), fun k _ => rfl⟩
    (fun n t h => pk_le D D (fun _ => nm_r (nI_add F m) (H m t h.1 h.2)) (fun z => absurd z (by omega))) ?_
  intro n i t hi h hw
  have e1 : t (3 * v + i) = s (3 * v + i) := h.2 _ (fun b hb => by omega)
  have e2 := hm i hi
  refine pk_le D i (fun z => absurd z (by omega)) (fun _ => ⟨pk_in (3 * v + i) 18 (by omega) (wc_i3 v i), pk_in (3 * v + i) 18 (by omega) (wc_i3 v i), nm_r (wc_put (3 * v + i) (t (3 * v + i) - m) (wc_i3 v i) (by rw [wc_get (3 * v + i) (wc_i3 v i) (by omega), pk_sub (by omega)]) (by omega)) (nm_r (nI_1 i) (hw _ ⟨?_, ?_⟩))⟩)
  · intro b hb
    by_cases e : b = i
    · rw [e, wc_us]
      omega
    · rw [wc_un (by omega)]
      exact h.1 b (by omega)
  · intro k hk
    rw [wc_un (hk i (by omega))]
    exact h.2 k (fun b hb => hk b (by omega))
theorem wc_sink {post : St2 → Prop} {D F v : Nat} {s : Nat → Nat} (hv : v < 6) (hD : 1 ≤ D) (hD3 : D ≤ 3) (hs : ∀ b, b < D → s (3 * v + b) < 2 ^ 31)
    (H : ∀ m s', (∀ b, b < D → s' (3 * v + b) + m = s (3 * v + b)) → (∀ k, (∀ b, b < D → k ≠ 3 * v + b) → s' k = s k) → post (fn, nI D, nI (F + m), cu, ab, co, cg, l1, l2, l3, l4, a1, a2, a3, a4, wc_A s', a6, a7, a8, a9, a10)) :
    wpX_sink post (fn, nI D, nI F, cu, ab, co, cg, l1, l2, l3, l4, a1, a2, a3, a4, wc_A s, a6, a7, a8, a9, a10) (nI v) := by
  unfold wpX_sink
  refine ⟨pk_in (3 * v) 18 (by omega) (wc_i3z v), nm_r (wc_get (3 * v) (wc_i3z v) (by omega)) ?_⟩
  refine pk_loop (fun n i m => wX_sink_11 post (nI v) fn (nI D) (nI F) cu ab co cg l1 l2 l3 l4 a1 a2 a3 a4 (wc_A s) a6 a7 a8 a9 a10 n (nI m) (nI i)) (fun i m => m < 2 ^ 31 ∧ ∀ b, b < i → m ≤ s (3 * v + b)) D 1 (s (3 * v)) hD ⟨hs 0 (by omega), fun b hb => by rw [show b = 0 by omega]; exact Nat.le_refl _⟩
    (fun n m h => pk_le D D (fun _ => wc_sink56 hv hD3 h.2 H) (fun z => absurd z (by omega))) ?_
  intro n i m hi h hw
  have hsi := hs i hi
  refine pk_le D i (fun z => absurd z (by omega)) (fun _ => ⟨pk_in (3 * v + i) 18 (by omega) (wc_i3 v i), ?_⟩)
  refine pk_le m (s (3 * v + i)) (fun z => nm_r (nI_1 i) (hw m ⟨h.1, fun b hb => ?_⟩)) (fun z => ⟨pk_in (3 * v + i) 18 (by omega) (wc_i3 v i), nm_r (wc_get (3 * v + i) (wc_i3 v i) (by omega)) (nm_r (nI_1 i) (hw _ ⟨hsi, fun b hb => ?_⟩))⟩) rfl (wc_get (3 * v + i) (wc_i3 v i) (by omega)) h.1 hsi
  · by_cases e : b = i
    · rw [e]
      exact z
    · exact h.2 b (by omega)
  · by_cases e : b = i
    · rw [e]
      exact Nat.le_refl _
    · have := h.2 b (by omega)
      omega
theorem wc_low81 {post : St2 → Prop} {J2 : Int32 → (Nat → Int32) → (Nat → Int32) → (Nat → Int32) → (Nat → Int32) → (Nat → Int32) → (Nat → Int32) → (Nat → Int32) → (Nat → Int32) → (Nat → Int32) → (Nat → Int32) → Prop}
    {D u a c m : Nat} {s p : Nat → Nat} {x2 : Int32} (hu : u < 6) (ha : a < 3) (hc : c + 3 ≤ 324) (hD3 : D ≤ 3) (hm : ∀ b, b < D → m ≤ p (c + b))
    (H : ∀ p', (∀ b, b < D → p' (c + b) + m = p (c + b)) → (∀ k, (∀ b, b < D → k ≠ c + b) → p' k = p k) → J2 (nI (a + 1)) a1 a2 a3 a4 (wc_A (wc_up s (3 * u + a) (s (3 * u + a) + m))) (wc_A p') a7 a8 a9 a10) :
    ∃ n, wX_lower_81 post J2 (nI u) x2 (nI a) (nI c) (nI m) fn (nI D) fl cu ab co cg l1 l2 l3 l4 n 0 a1 a2 a3 a4 (wc_A s) (wc_A p) a7 a8 a9 a10 := by
  refine pk_loop (fun n i t => wX_lower_81 post J2 (nI u) x2 (nI a) (nI c) (nI m) fn (nI D) fl cu ab co cg l1 l2 l3 l4 n (nI i) a1 a2 a3 a4 (wc_A s) (wc_A t) a7 a8 a9 a10) (fun i t => (∀ b, b < i → t (c + b) + m = p (c + b)) ∧ (∀ k, (∀ b, b < i → k ≠ c + b) → t k = p k)) D 0 p (by omega) ⟨fun b hb => absurd hb (by omega), fun k _ => rfl⟩
    (fun n t h => pk_le D D (fun _ => ⟨pk_in (3 * u + a) 18 (by omega) (wc_i3 u a), pk_in (3 * u + a) 18 (by omega) (wc_i3 u a), nm_r (wc_put (3 * u + a) (s (3 * u + a) + m) (wc_i3 u a) (by rw [wc_get (3 * u + a) (wc_i3 u a) (by omega), nI_add]) (by omega)) (nm_r (nI_1 a) (H t h.1 h.2))⟩) (fun z => absurd z (by omega))) ?_
  intro n i t hi h hw
  have e1 : t (c + i) = p (c + i) := h.2 _ (fun b hb => by omega)
  have e2 := hm i hi
  refine pk_le D i (fun z => absurd z (by omega)) (fun _ => ⟨pk_in (c + i) 324 (by omega) (nI_add c i), pk_in (c + i) 324 (by omega) (nI_add c i), nm_r (wc_put (c + i) (t (c + i) - m) (nI_add c i) (by rw [wc_get (c + i) (nI_add c i) (by omega), pk_sub (by omega)]) (by omega)) (nm_r (nI_1 i) (hw _ ⟨?_, ?_⟩))⟩)
  · intro b hb
    by_cases e : b = i
    · rw [e, wc_us]
      omega
    · rw [wc_un (by omega)]
      exact h.1 b (by omega)
  · intro k hk
    rw [wc_un (hk i (by omega))]
    exact h.2 k (fun b hb => hk b (by omega))
theorem wc_low31 {post : St2 → Prop} {J2 : Int32 → (Nat → Int32) → (Nat → Int32) → (Nat → Int32) → (Nat → Int32) → (Nat → Int32) → (Nat → Int32) → (Nat → Int32) → (Nat → Int32) → (Nat → Int32) → (Nat → Int32) → Prop}
    {D u a c : Nat} {s p : Nat → Nat} {x2 : Int32} (hu : u < 6) (ha : a < 3) (hc : c + 3 ≤ 324) (hD : 1 ≤ D) (hD3 : D ≤ 3) (hp : ∀ b, b < D → p (c + b) < 2 ^ 31)
    (H : ∀ m p', (∀ b, b < D → p' (c + b) + m = p (c + b)) → (∀ k, (∀ b, b < D → k ≠ c + b) → p' k = p k) → J2 (nI (a + 1)) a1 a2 a3 a4 (wc_A (wc_up s (3 * u + a) (s (3 * u + a) + m))) (wc_A p') a7 a8 a9 a10) :
    ∃ n, wX_lower_31 post J2 (nI u) x2 (nI a) (nI c) fn (nI D) fl cu ab co cg l1 l2 l3 l4 a1 a2 a3 a4 (wc_A s) (wc_A p) a7 a8 a9 a10 n (nI (p c)) 1 := by
  refine pk_loop (fun n i m => wX_lower_31 post J2 (nI u) x2 (nI a) (nI c) fn (nI D) fl cu ab co cg l1 l2 l3 l4 a1 a2 a3 a4 (wc_A s) (wc_A p) a7 a8 a9 a10 n (nI m) (nI i)) (fun i m => m < 2 ^ 31 ∧ ∀ b, b < i → m ≤ p (c + b)) D 1 (p c) hD ⟨hp 0 (by omega), fun b hb => by rw [show b = 0 by omega]; exact Nat.le_refl _⟩
    (fun n m h => pk_le D D (fun _ => wc_low81 hu ha hc hD3 h.2 (H m)) (fun z => absurd z (by omega))) ?_
  intro n i m hi h hw
  have hpi := hp i hi
  refine pk_le D i (fun z => absurd z (by omega)) (fun _ => ⟨pk_in (c + i) 324 (by omega) (nI_add c i), ?_⟩)
  refine pk_le m (p (c + i)) (fun z => nm_r (nI_1 i) (hw m ⟨h.1, fun b hb => ?_⟩)) (fun z => ⟨pk_in (c + i) 324 (by omega) (nI_add c i), nm_r (wc_get (c + i) (nI_add c i) (by omega)) (nm_r (nI_1 i) (hw _ ⟨hpi, fun b hb => ?_⟩))⟩) rfl (wc_get (c + i) (nI_add c i) (by omega)) h.1 hpi
  · by_cases e : b = i
    · rw [e]
      exact z
    · exact h.2 b (by omega)
  · by_cases e : b = i
    · rw [e]
      exact Nat.le_refl _
    · have := h.2 b (by omega)
      omega
theorem wc_lower {post : St2 → Prop} {N D F u v : Nat} {T : (Nat → Nat) → Nat} {s p : Nat → Nat} (hN : N ≤ 6) (hD : 1 ≤ D) (hD3 : D ≤ 3) (hv : v < N) (hu : u < v) (hT : ∀ g, wc_ok N D g → T g ≤ 36000000)
    (h0 : wc_J N D T F s p) (H : ∀ s' p', wc_J N D T F s' p' → post (fn, nI D, fl, cu, ab, co, cg, l1, l2, l3, l4, a1, a2, a3, a4, wc_A s', wc_A p', a7, a8, a9, a10)) :
    wpX_lower post (fn, nI D, fl, cu, ab, co, cg, l1, l2, l3, l4, a1, a2, a3, a4, wc_A s, wc_A p, a7, a8, a9, a10) (nI u) (nI v) := by
  unfold wpX_lower
  refine pk_loop (σ := (Nat → Nat) × (Nat → Nat)) (fun n i t => wX_lower_2 post (nI u) (nI v) fn (nI D) fl cu ab co cg l1 l2 l3 l4 n (nI i) a1 a2 a3 a4 (wc_A t.1) (wc_A t.2) a7 a8 a9 a10) (fun i t => wc_J N D T F t.1 t.2) D 0 (s, p) (by omega) h0
    (fun n t h => pk_le D D (fun _ => H t.1 t.2 h) (fun z => absurd z (by omega))) ?_
  intro n i t hi h hw
  have hb := (wc_Jb (by omega) h hT).2.2
  refine pk_le D i (fun z => absurd z (by omega)) (fun _ => wc_cellw u v i 0 ⟨pk_in ((6 * u + v) * 9 + 3 * i + 0) 324 (by omega), nm_r (wc_get ((6 * u + v) * 9 + 3 * i + 0) rfl (by omega)) ?_⟩)
  refine wc_low31 (by omega) (by omega) (by omega) hD hD3 (fun b hb' => ?_) (fun m p' e1 e2 => hw (_, p') (wc_Jlow (m := m) hN hD3 hv hu hi e1 e2 rfl h))
  have := hb u v i b hv hu hi hb'
  rw [Nat.add_zero]
  omega
theorem wc_rai25 {post : St2 → Prop} {J2 : Int32 → (Nat → Int32) → (Nat → Int32) → (Nat → Int32) → (Nat → Int32) → (Nat → Int32) → (Nat → Int32) → (Nat → Int32) → (Nat → Int32) → (Nat → Int32) → (Nat → Int32) → Prop}
    {D u v b m : Nat} {s p : Nat → Nat} (hv : v < 6) (hu : u < v) (hb : b < 3) (hD3 : D ≤ 3)
    (H : ∀ p', (∀ a, a < D → p' ((6 * u + v) * 9 + 3 * a + b) = p ((6 * u + v) * 9 + 3 * a + b) + m) → (∀ k, (∀ a, a < D → k ≠ (6 * u + v) * 9 + 3 * a + b) → p' k = p k) → J2 (nI (b + 1)) a1 a2 a3 a4 (wc_A (wc_up s (3 * v + b) 0)) (wc_A p') a7 a8 a9 a10) :
    ∃ n, wX_raise_25 post J2 (nI u) (nI v) (nI b) (nI m) fn (nI D) fl cu ab co cg l1 l2 l3 l4 n 0 a1 a2 a3 a4 (wc_A s) (wc_A p) a7 a8 a9 a10 := by
  refine pk_loop (fun n i t => wX_raise_25 post J2 (nI u) (nI v) (nI b) (nI m) fn (nI D) fl cu ab co cg l1 l2 l3 l4 n (nI i) a1 a2 a3 a4 (wc_A s) (wc_A t) a7 a8 a9 a10) (fun i t => (∀ a, a < i → t ((6 * u + v) * 9 + 3 * a + b) = p ((6 * u + v) * 9 + 3 * a + b) + m) ∧ (∀ k, (∀ a, a < i → k ≠ (6 * u + v) * 9 + 3 * a + b) → t k = p k)) D 0 p (by omega) ⟨fun b hb => absurd hb (by omega), fun k _ => rfl⟩
    (fun n t h => pk_le D D (fun _ => ⟨pk_in (3 * v + b) 18 (by omega) (wc_i3 v b), nm_r (wc_put (3 * v + b) 0 (wc_i3 v b) rfl (by omega)) (nm_r (nI_1 b) (H t h.1 h.2))⟩) (fun z => absurd z (by omega))) ?_
  intro n i t hi h hw
  have e1 : t ((6 * u + v) * 9 + 3 * i + b) = p ((6 * u + v) * 9 + 3 * i + b) := h.2 _ (fun b hb => by omega)
  refine pk_le D i (fun z => absurd z (by omega)) (fun _ => ⟨pk_in ((6 * u + v) * 9 + 3 * i + b) 324 (by omega) (wc_ic u v i b), pk_in ((6 * u + v) * 9 + 3 * i + b) 324 (by omega) (wc_ic u v i b), nm_r (wc_put ((6 * u + v) * 9 + 3 * i + b) (t ((6 * u + v) * 9 + 3 * i + b) + m) (wc_ic u v i b) (by rw [wc_get ((6 * u + v) * 9 + 3 * i + b) (wc_ic u v i b) (by omega), nI_add]) (by omega)) (nm_r (nI_1 i) (hw _ ⟨?_, ?_⟩))⟩)
  · intro a ha
    by_cases e : a = i
    · rw [e, wc_us]
      omega
    · rw [wc_un (by omega)]
      exact h.1 a (by omega)
  · intro k hk
    rw [wc_un (hk i (by omega))]
    exact h.2 k (fun b hb => hk b (by omega))
theorem wc_raise {post : St2 → Prop} {N D F u v : Nat} {T : (Nat → Nat) → Nat} {s p : Nat → Nat} (hN : N ≤ 6) (hD : 1 ≤ D) (hD3 : D ≤ 3) (hv : v < N) (hu : u < v)
    (h0 : wc_J N D T F s p) (H : ∀ s' p', wc_J N D T F s' p' → post (fn, nI D, fl, cu, ab, co, cg, l1, l2, l3, l4, a1, a2, a3, a4, wc_A s', wc_A p', a7, a8, a9, a10)) :
    wpX_raise post (fn, nI D, fl, cu, ab, co, cg, l1, l2, l3, l4, a1, a2, a3, a4, wc_A s, wc_A p, a7, a8, a9, a10) (nI u) (nI v) := by
  unfold wpX_raise
  refine pk_loop (σ := (Nat → Nat) × (Nat → Nat)) (fun n i t => wX_raise_2 post (nI u) (nI v) fn (nI D) fl cu ab co cg l1 l2 l3 l4 n (nI i) a1 a2 a3 a4 (wc_A t.1) (wc_A t.2) a7 a8 a9 a10) (fun i t => wc_J N D T F t.1 t.2) D 0 (s, p) (by omega) h0
    (fun n t h => pk_le D D (fun _ => H t.1 t.2 h) (fun z => absurd z (by omega))) ?_
  intro n i t hi h hw
  refine pk_le D i (fun z => absurd z (by omega)) (fun _ => ⟨pk_in (3 * v + i) 18 (by omega) (wc_i3 v i), nm_r (wc_get (3 * v + i) (wc_i3 v i) (by omega)) ?_⟩)
  exact wc_rai25 (by omega) hu (by omega) hD3 (fun p' e1 e2 => hw (_, p') (wc_Jrai hN hD3 hv hu hi e1 e2 rfl h))
end
end
section
/-! walk: prepare -/
section
variable {fn fd fl cu ab co cg l1 l2 l3 l4 : Int32} {a1 a2 a3 a4 a5 a6 a7 a8 a9 a10 : Nat → Int32}
theorem wc_p133 {post : St2 → Prop} {J125 : Int32 → Int32 → Int32 → Int32 → Int32 → Int32 → Int32 → Int32 → Int32 → Int32 → Int32 → Int32 → (Nat → Int32) → (Nat → Int32) → (Nat → Int32) → (Nat → Int32) → (Nat → Int32) → (Nat → Int32) → (Nat → Int32) → (Nat → Int32) → (Nat → Int32) → (Nat → Int32) → Prop}
    {N D v : Nat} {T : (Nat → Nat) → Nat} (hN : N ≤ 6) (hD : 1 ≤ D) (hD3 : D ≤ 3) (hv : v + 1 < N) (hT : ∀ g, wc_ok N D g → T g ≤ 36000000)
    (H : ∀ F s p, wc_J N D T F s p → J125 (nI v) fn (nI D) (nI F) cu ab co cg l1 l2 l3 l4 a1 a2 a3 a4 (wc_A s) (wc_A p) a7 a8 a9 a10) :
    ∀ c F s p, c ≤ v + 1 → wc_J N D T F s p → wX_prepare_133 post J125 (nI (v + 1)) (c + 1) (nI c - 1) fn (nI D) (nI F) cu ab co cg l1 l2 l3 l4 a1 a2 a3 a4 (wc_A s) (wc_A p) a7 a8 a9 a10 := by
  intro c
  induction c with
  | zero =>
    intro F s p hc h
    have hb := (wc_Jb (by omega) h hT).2.1
    refine br_t (by decide) (wc_sink (by omega) hD hD3 (fun b hb' => ?_) (fun m s' e1 e2 => nm_r (pk_m1 v) (H _ _ _ (wc_Jsin hD3 hv e1 e2 h))))
    have := hb (v + 1) b hv hb'
    omega
  | succ c ih =>
    intro F s p hc h
    rw [nI_pred]
    refine br_f (nI_pos (by omega)) (wc_lower hN hD hD3 hv (by omega) hT h (fun s1 p1 h1 => wc_raise hN hD hD3 hv (by omega) h1 (fun s2 p2 h2 => wc_lower hN hD hD3 hv (by omega) hT h2 (fun s3 p3 h3 => nm_r (e' := nI c - 1) ?_ (ih F s3 p3 (by omega) h3)))))
    rw [Int32.sub_eq_add_neg]
theorem wc_p125 {post : St2 → Prop} {N D : Nat} {T : (Nat → Nat) → Nat} (hN : N ≤ 6) (hN1 : 1 ≤ N) (hD : 1 ≤ D) (hD3 : D ≤ 3) (hT : ∀ g, wc_ok N D g → T g ≤ 36000000)
    (H : ∀ F s p, wc_J N D T F s p → post (fn, nI D, nI F, cu, ab, co, cg, l1, l2, l3, l4, a1, a2, a3, a4, wc_A s, wc_A p, a7, a8, a9, a10)) :
    ∀ v F s p, v < N → wc_J N D T F s p → wX_prepare_125 post (v + 1) (nI v) fn (nI D) (nI F) cu ab co cg l1 l2 l3 l4 a1 a2 a3 a4 (wc_A s) (wc_A p) a7 a8 a9 a10 := by
  intro v
  induction v with
  | zero =>
    intro F s p hv h
    have hb := (wc_Jb (by omega) h hT).2.1
    refine br_t (by decide) (wc_sink (v := 0) (by omega) hD hD3 (fun b hb' => ?_) (fun m s' e1 e2 => H _ _ _ (wc_Jsin hD3 hv e1 e2 h)))
    have := hb 0 b hv hb'
    omega
  | succ v ih =>
    intro F s p hv h
    refine br_f (nI_nle (by omega) (by omega)) (nm_r (nI_pred v) ⟨v + 1 + 1, ?_⟩)
    have := wc_p133 (post := post) (J125 := wX_prepare_125 post (v + 1)) hN hD hD3 hv hT (fun F s p h => ih F s p (by omega) h) (v + 1) F s p (by omega) h
    rw [nI_pred] at this
    exact this
theorem wc_p36 {post : St2 → Prop} {J7 : Int32 → (Nat → Int32) → (Nat → Int32) → (Nat → Int32) → (Nat → Int32) → (Nat → Int32) → (Nat → Int32) → (Nat → Int32) → (Nat → Int32) → (Nat → Int32) → (Nat → Int32) → Prop}
    {U t : Nat → Nat} {i z : Nat} (hi : i < 18) (hU : U i ≤ 99) (hz : z ≤ 1) (H : ∀ y, y = (if z = 1 ∧ U i ≠ 99 then U i else 1000000) → J7 (nI (i + 1)) (wc_A U) a2 a3 a4 (wc_A (wc_up t i y)) a6 a7 a8 a9 a10) :
    wX_prepare_36 post J7 (nI i) (nI z) fn fd fl cu ab co cg l1 l2 l3 l4 (wc_A U) a2 a3 a4 (wc_A t) a6 a7 a8 a9 a10 := by
  unfold wX_prepare_36
  refine pk_eq z 0 (fun e => ⟨pk_in i 18 hi, nm_r (wc_put i 1000000 rfl rfl (by omega)) (nm_r (nI_1 i) (H _ (by rw [if_neg (by omega)])))⟩) (fun e => ⟨pk_in i 18 hi, ?_⟩)
  refine pk_eq (U i) 99 (fun e2 => ⟨pk_in i 18 hi, nm_r (wc_put i 1000000 rfl rfl (by omega)) (nm_r (nI_1 i) (H _ (by rw [if_neg (fun z => z.2 e2)])))⟩) (fun e2 => ⟨pk_in i 18 hi, pk_in i 18 hi, nm_r (wc_put i (U i) rfl (wc_get i rfl (by omega)) (by omega)) (nm_r (nI_1 i) (H _ (by rw [if_pos ⟨by omega, e2⟩])))⟩) (wc_get i rfl (by omega))
theorem wc_p7 {post : St2 → Prop} {U mk : Nat → Nat} {s : Nat → Nat} (hU : ∀ k, U k ≤ 99) (hm : ∀ k, mk k ≤ 7)
    (H : ∀ t, (∀ k, k < 18 → t k = wc_s0 U mk k) → ∃ n, wX_prepare_77 post fn fd fl cu ab co cg l1 l2 l3 l4 n 0 (wc_A U) a2 a3 (wc_A mk) (wc_A t) a6 a7 a8 a9 a10) :
    ∃ n, wX_prepare_7 post fn fd fl cu ab co cg l1 l2 l3 l4 n 0 (wc_A U) a2 a3 (wc_A mk) (wc_A s) a6 a7 a8 a9 a10 := by
  refine pk_loop (fun n i t => wX_prepare_7 post fn fd fl cu ab co cg l1 l2 l3 l4 n (nI i) (wc_A U) a2 a3 (wc_A mk) (wc_A t) a6 a7 a8 a9 a10) (fun i t => ∀ k, k < i → t k = wc_s0 U mk k) 18 0 s (by omega) (fun k hk => absurd hk (by omega))
    (fun n t h => pk_le 18 18 (fun _ => H t h) (fun z => absurd z (by omega))) ?_
  intro n i t hi h hw
  have g : ∀ y, y = wc_s0 U mk i → ∀ k, k < i + 1 → wc_up t i y k = wc_s0 U mk k := by
    intro y hy k hk
    by_cases e : k = i
    · rw [e, wc_us, hy]
    · rw [wc_un e]
      exact h k (by omega)
  refine pk_le 18 i (fun z => absurd z (by omega)) (fun _ => ⟨by decide, pk_in (i / 3) 6 (by omega) (wc_d3 (by omega)), by decide, ?_⟩)
  refine wc_bitE (m := mk (i / 3)) (b := i % 3) (hm _) (by omega) (fun z => wc_p36 (z := 1) hi (hU i) (by omega) (fun y hy => hw _ (g y ?_))) (fun z => wc_p36 (z := 0) hi (hU i) (by omega) (fun y hy => hw _ (g y ?_))) (by rw [wc_get (i / 3) (wc_d3 (by omega)) (by omega), wc_r3 (by omega)])
  · rw [hy]
    unfold wc_s0
    by_cases e : U i = 99
    · rw [if_neg (fun q => q.2 e), if_neg (fun q => q.2 e)]
    · rw [if_pos ⟨rfl, e⟩, if_pos ⟨z, e⟩]
  · rw [hy]
    unfold wc_s0
    rw [if_neg (by omega), if_neg (fun q => z q.1)]
theorem wc_p77 {post : St2 → Prop} {N : Nat} {B : Nat → Nat} {p : Nat → Nat} (hN : 1 ≤ N) (hB : ∀ k, B k ≤ 99)
    (H : ∀ t, (∀ k, k < 324 → t k = wc_p0 B k) → ∃ n, wX_prepare_125 post n (nI (N - 1)) (nI N) fd fl cu ab co cg l1 l2 l3 l4 a1 (wc_A B) a3 a4 a5 (wc_A t) a7 a8 a9 a10) :
    ∃ n, wX_prepare_77 post (nI N) fd fl cu ab co cg l1 l2 l3 l4 n 0 a1 (wc_A B) a3 a4 a5 (wc_A p) a7 a8 a9 a10 := by
  refine pk_loop (fun n i t => wX_prepare_77 post (nI N) fd fl cu ab co cg l1 l2 l3 l4 n (nI i) a1 (wc_A B) a3 a4 a5 (wc_A t) a7 a8 a9 a10) (fun i t => ∀ k, k < i → t k = wc_p0 B k) 324 0 p (by omega) (fun k hk => absurd hk (by omega))
    (fun n t h => pk_le 324 324 (fun _ => nm_r (pk_sub (b := 1) hN) (H t h)) (fun z => absurd z (by omega))) ?_
  intro n i t hi h hw
  have hBi := hB i
  have g : ∀ y, y = wc_p0 B i → ∀ k, k < i + 1 → wc_up t i y k = wc_p0 B k := by
    intro y hy k hk
    by_cases e : k = i
    · rw [e, wc_us, hy]
    · rw [wc_un e]
      exact h k (by omega)
  refine pk_le 324 i (fun z => absurd z (by omega)) (fun _ => ⟨pk_in i 324 hi, ?_⟩)
  refine pk_eq (B i) 99 (fun e => ⟨pk_in i 324 hi, nm_r (wc_put i 1000000 rfl rfl (by omega)) (nm_r (nI_1 i) (hw _ (g _ (by unfold wc_p0; rw [if_pos e]))))⟩) (fun e => ⟨pk_in i 324 hi, pk_in i 324 hi, nm_r (wc_put i (B i) rfl (wc_get i rfl (by omega)) (by omega)) (nm_r (nI_1 i) (hw _ (g _ (by unfold wc_p0; rw [if_neg e]))))⟩) (wc_get i rfl (by omega))
theorem wc_cells {N F : Nat} {s s' p p' g : Nat → Nat} (hN : N ≤ 6) (hg : ∀ v, v < N → g v < 3) (h1 : ∀ k, k < 18 → s' k = s k) (h2 : ∀ k, k < 324 → p' k = p k) : wc_R F s' p' g N = wc_R F s p g N := by
  unfold wc_R
  refine congrArg (fun z => F + z) (wc_sm_congr N (fun v hv => ?_))
  show wc_X s' p' g v v (g v) = wc_X s p g v v (g v)
  have gv := hg v hv
  unfold wc_X
  rw [h1 _ (by omega)]
  refine congrArg (fun z => s (3 * v + g v) + z) (wc_sm_congr v (fun i hi => ?_))
  have gi := hg i (by omega)
  exact h2 _ (by omega)
theorem wc_prep {post : St2 → Prop} {N D : Nat} {U B mk A : Nat → Nat} (hN : N ≤ 6) (hN1 : 1 ≤ N) (hD : 1 ≤ D) (hD3 : D ≤ 3) (hU : ∀ k, U k ≤ 99) (hB : ∀ k, B k ≤ 99) (hm : ∀ k, mk k ≤ 7) (hA : ∀ v, v < N → mk v = A v)
    (H : ∀ F s p, wc_J N D (wc_T N U B A) F s p → post (nI N, nI D, nI F, cu, ab, co, cg, l1, l2, l3, l4, wc_A U, wc_A B, a3, wc_A mk, wc_A s, wc_A p, a7, a8, a9, a10)) :
    wpX_prepare post (nI N, nI D, fl, cu, ab, co, cg, l1, l2, l3, l4, wc_A U, wc_A B, a3, wc_A mk, a5, a6, a7, a8, a9, a10) := by
  obtain ⟨s, rfl⟩ := wc_Ae a5
  obtain ⟨p, rfl⟩ := wc_Ae a6
  unfold wpX_prepare
  refine wc_p7 hU hm (fun s1 e1 => wc_p77 hN1 hB (fun p1 e2 => ⟨N - 1 + 1, ?_⟩))
  refine wc_p125 hN hN1 hD hD3 (fun g _ => wc_T_bd hN hU hB g) H (N - 1) 0 s1 p1 (by omega) (fun g hg => ?_)
  have hg3 : ∀ v, v < N → g v < 3 := fun v hv => by
    have := hg v hv
    omega
  rw [wc_cells hN hg3 e1 e2]
  exact wc_T_mk (mk' := mk) (mk := A) hg3 (fun v hv => by rw [hA v hv])
end
end
section
/-! walks: remaining, arrive -/
def wc_E (y : Int32) (X : Nat) : Prop := ∃ e, y = nI e ∧ e ≤ X ∧ (e = X ∨ 3000000 ≤ e)
section
variable {fn fd fl cu ab co cg l1 l2 l3 l4 : Int32} {a1 a2 a3 a4 a5 a6 a7 a8 a9 a10 : Nat → Int32}
theorem wc_rem93 {post : Int32 → St2 → Prop} {J6 J21 : Int32 → Int32 → (Nat → Int32) → (Nat → Int32) → (Nat → Int32) → (Nat → Int32) → (Nat → Int32) → (Nat → Int32) → (Nat → Int32) → (Nat → Int32) → (Nat → Int32) → (Nat → Int32) → Prop}
    {mk : Nat → Nat} {j w i m z : Nat} {x2 : Int32} (hm : ∀ k, mk k ≤ 7) (hj : j < 6) (hw : w < 6) (hi : i < 3) (hz : z < 2 ^ 31) (hm1 : m < 2 ^ 31)
    (H : ∀ m', m' ≤ m → (mk w / 2 ^ i % 2 = 1 → m' ≤ z) → J21 (nI m') (nI (i + 1)) a1 a2 a3 (wc_A mk) a5 a6 (upd a7 (18 * j + 18 + 3 * w + i) (nI z)) a8 a9 a10) :
    wX_remaining_93 post J6 J21 (nI j) x2 (nI w) (nI m) (nI i) (nI z) fn fd fl cu ab co cg l1 l2 l3 l4 a1 a2 a3 (wc_A mk) a5 a6 a7 a8 a9 a10 := by
  unfold wX_remaining_93
  refine ⟨pk_in (18 * j + 18 + 3 * w + i) 126 (by omega) (wc_ie2 j w i), nm_r (e' := upd a7 (18 * j + 18 + 3 * w + i) (nI z)) (by rw [wc_ie2, nI_clamp (by omega)]) ⟨pk_in w 6 hw, ?_⟩⟩
  refine wc_bitE (m := mk w) (b := i) (hm w) (by omega) (fun hb => ?_) (fun hb => nm_r (nI_1 i) (H m (Nat.le_refl _) (fun q => absurd q hb))) (by rw [wc_get w rfl (by omega)])
  exact pk_le m z (fun c => nm_r (nI_1 i) (H m (Nat.le_refl _) (fun _ => c))) (fun c => nm_r (nI_1 i) (H z (by omega) (fun _ => Nat.le_refl _)))
theorem wc_rem21 {post : Int32 → St2 → Prop} {J6 : Int32 → Int32 → (Nat → Int32) → (Nat → Int32) → (Nat → Int32) → (Nat → Int32) → (Nat → Int32) → (Nat → Int32) → (Nat → Int32) → (Nat → Int32) → (Nat → Int32) → (Nat → Int32) → Prop}
    {mk p Y : Nat → Nat} {D j w r x : Nat} (hm : ∀ k, mk k ≤ 7) (hj : j < w) (hw : w < 6) (hD3 : D ≤ 3) (hx : x < 3) (h9 : a9 j = nI x) (hY : ∀ b, b < D → Y b ≤ 300000000)
    (h7 : ∀ b, b < D → ∃ e, a7 (18 * j + 3 * w + b) = nI e ∧ e + p ((6 * j + w) * 9 + 3 * x + b) ≤ Y b ∧ (e + p ((6 * j + w) * 9 + 3 * x + b) = Y b ∨ 3000000 ≤ e))
    (H : ∀ m t, m ≤ 1000000 → (∀ b, b < D → mk w / 2 ^ b % 2 = 1 → m ≤ Y b) → (∀ k, k < 18 * j + 18 + 3 * w ∨ 18 * j + 18 + 3 * w + 3 ≤ k → t k = a7 k) → (∀ b, b < D → wc_E (t (18 * j + 18 + 3 * w + b)) (Y b)) →
      J6 (nI (r + m)) (nI (w + 1)) a1 a2 a3 (wc_A mk) a5 (wc_A p) t a8 a9 a10) :
    ∃ n, wX_remaining_21 post J6 (nI j) (nI r) (nI w) fn (nI D) fl cu ab co cg l1 l2 l3 l4 n 1000000 0 a1 a2 a3 (wc_A mk) a5 (wc_A p) a7 a8 a9 a10 := by
  refine pk_loop (σ := Nat × (Nat → Int32)) (fun n i s => wX_remaining_21 post J6 (nI j) (nI r) (nI w) fn (nI D) fl cu ab co cg l1 l2 l3 l4 n (nI s.1) (nI i) a1 a2 a3 (wc_A mk) a5 (wc_A p) s.2 a8 a9 a10)
    (fun i s => s.1 ≤ 1000000 ∧ (∀ b, b < i → mk w / 2 ^ b % 2 = 1 → s.1 ≤ Y b) ∧ (∀ k, k < 18 * j + 18 + 3 * w ∨ 18 * j + 18 + 3 * w + 3 ≤ k → s.2 k = a7 k) ∧ (∀ b, b < i → wc_E (s.2 (18 * j + 18 + 3 * w + b)) (Y b)))
    D 0 (1000000, a7) (by omega) ⟨Nat.le_refl _, fun b hb => absurd hb (by omega), fun k _ => rfl, fun b hb => absurd hb (by omega)⟩
    (fun n s h => pk_le D D (fun _ => nm_r (nI_add r s.1) (nm_r (nI_1 w) (H s.1 s.2 h.1 h.2.1 h.2.2.1 h.2.2.2))) (fun z => absurd z (by omega))) ?_
  intro n i s hi h hww
  obtain ⟨m, t⟩ := s
  obtain ⟨i1, i2, i3, i4⟩ := h
  dsimp only at i1 i2 i3 i4
  obtain ⟨e, e1, e2, e3⟩ := h7 i hi
  have hYi := hY i hi
  have ce : ((((6 : Int32) * nI j + nI w) * 9 + 3 * (a9 (nI j).toNatClampNeg)) + nI i) = nI ((6 * j + w) * 9 + 3 * x + i) := by
    rw [nI_clamp (by omega), h9]
    exact wc_ic j w x i
  have st : ∀ z, z ≤ Y i → (z = Y i ∨ 3000000 ≤ z) → wX_remaining_93 post J6 (wX_remaining_21 post J6 (nI j) (nI r) (nI w) fn (nI D) fl cu ab co cg l1 l2 l3 l4 n) (nI j) (nI r) (nI w) (nI m) (nI i) (nI z) fn (nI D) fl cu ab co cg l1 l2 l3 l4 a1 a2 a3 (wc_A mk) a5 (wc_A p) t a8 a9 a10 := by
    intro z z1 z2
    refine wc_rem93 hm (by omega) hw (by omega) (by omega) (by omega) (fun m' m1 m2 => hww (m', upd t (18 * j + 18 + 3 * w + i) (nI z)) ⟨?_, fun b hb hbit => ?_, fun k hk => ?_, fun b hb => ?_⟩)
    · dsimp only
      omega
    · dsimp only
      by_cases c : b = i
      · rw [c] at hbit ⊢
        have := m2 hbit
        omega
      · have := i2 b (by omega) hbit
        omega
    · dsimp only
      rw [pk_un (by omega)]
      exact i3 k hk
    · dsimp only
      by_cases c : b = i
      · rw [c, pk_us]
        exact ⟨z, rfl, z1, z2⟩
      · rw [pk_un (by omega)]
        exact i4 b (by omega)
  refine pk_le D i (fun z => absurd z (by omega)) (fun _ => ⟨pk_in j 7 (by omega), pk_in _ 324 (by omega) ce, nm_r (wc_get _ ce (by omega)) ⟨pk_in (18 * j + 3 * w + i) 126 (by omega) (wc_ie j w i), nm_r (e' := nI (e + p ((6 * j + w) * 9 + 3 * x + i))) ?_ ?_⟩⟩)
  · show t (((18 : Int32) * nI j + 3 * nI w) + nI i).toNatClampNeg + nI (p ((6 * j + w) * 9 + 3 * x + i)) = nI (e + p ((6 * j + w) * 9 + 3 * x + i))
    rw [wc_ie, nI_clamp (by omega), i3 (18 * j + 3 * w + i) (by omega), e1, nI_add]
  · exact pk_le (e + p ((6 * j + w) * 9 + 3 * x + i)) 3000000 (fun z => st _ e2 (by omega)) (fun z => st 3000000 (by omega) (by omega))
theorem wc_rem {post : Int32 → St2 → Prop} {mk s p g : Nat → Nat} {N D j : Nat} (hm : ∀ k, mk k ≤ 7) (hN : N ≤ 6) (hj : j < N) (hD3 : D ≤ 3) (hx : g j < 3) (h9 : a9 j = nI (g j))
    (hY : ∀ w b, j < w → w < N → b < D → wc_X s p g (j + 1) w b ≤ 300000000)
    (h7 : ∀ w b, j < w → w < N → b < D → wc_E (a7 (18 * j + 3 * w + b)) (wc_X s p g j w b))
    (H : ∀ r t, r ≤ 6000000 → (∀ k, k < 18 * j + 18 → t k = a7 k) → (∀ w b, j < w → w < N → b < D → wc_E (t (18 * j + 18 + 3 * w + b)) (wc_X s p g (j + 1) w b)) →
      (∀ f : Nat → Nat, (∀ w, j < w → w < N → f w < D ∧ mk w / 2 ^ f w % 2 = 1) → r ≤ wc_sm (fun i => if j < i then wc_X s p g (j + 1) i (f i) else 0) N) →
      post (nI r) (nI N, nI D, fl, cu, ab, co, cg, l1, l2, l3, l4, a1, a2, a3, wc_A mk, a5, wc_A p, t, a8, a9, a10)) :
    wpX_remaining post (nI N, nI D, fl, cu, ab, co, cg, l1, l2, l3, l4, a1, a2, a3, wc_A mk, a5, wc_A p, a7, a8, a9, a10) (nI j) := by
  unfold wpX_remaining
  refine nm_r (nI_1 j) (pk_loop (σ := Nat × (Nat → Int32)) (fun n i q => wX_remaining_6 post (nI j) (nI N) (nI D) fl cu ab co cg l1 l2 l3 l4 n (nI q.1) (nI i) a1 a2 a3 (wc_A mk) a5 (wc_A p) q.2 a8 a9 a10)
    (fun i q => j < i ∧ q.1 ≤ i * 1000000 ∧ (∀ k, k < 18 * j + 18 → q.2 k = a7 k) ∧ (∀ w b, j < w → w < i → b < D → wc_E (q.2 (18 * j + 18 + 3 * w + b)) (wc_X s p g (j + 1) w b)) ∧
      (∀ f : Nat → Nat, (∀ w, j < w → w < i → f w < D ∧ mk w / 2 ^ f w % 2 = 1) → q.1 ≤ wc_sm (fun i => if j < i then wc_X s p g (j + 1) i (f i) else 0) i))
    N (j + 1) (0, a7) (by omega) ⟨by omega, Nat.zero_le _, fun k _ => rfl, fun w b h1 h2 => absurd h2 (by omega), fun f _ => Nat.zero_le _⟩
    (fun n q h => pk_le N N (fun _ => H q.1 q.2 (by have := h.2.1; omega) h.2.2.1 h.2.2.2.1 h.2.2.2.2) (fun z => absurd z (by omega))) ?_)
  intro n i q hi h hww
  obtain ⟨r, t⟩ := q
  obtain ⟨hji, i1, i2, i3, i4⟩ := h
  dsimp only at i1 i2 i3 i4
  · refine pk_le N i (fun z => absurd z (by omega)) (fun _ => ?_)
    refine wc_rem21 (Y := fun b => wc_X s p g (j + 1) i b) hm hji (by omega) hD3 hx h9 (fun b hb => hY i b hji hi hb) (fun b hb => ?_) (fun m t' m1 m2 m3 m4 => hww (r + m, t') ⟨by omega, ?_, fun k hk => ?_, fun w b h1 h2 hb => ?_, fun f hf => ?_⟩)
    · obtain ⟨e, e1, e2, e3⟩ := h7 i b hji hi hb
      refine ⟨e, ?_, ?_, ?_⟩
      · show t (18 * j + 3 * i + b) = nI e
        rw [i2 _ (by omega)]
        exact e1
      · rw [wc_X_s]
        omega
      · rw [wc_X_s]
        omega
    · dsimp only
      omega
    · dsimp only
      rw [m3 k (by omega)]
      exact i2 k hk
    · dsimp only
      by_cases c : w = i
      · rw [c]
        exact m4 b hb
      · rw [m3 _ (by omega)]
        exact i3 w b h1 (by omega) hb
    · dsimp only
      rw [wc_sm_s, if_pos hji]
      have a1 := i4 f (fun w h1 h2 => hf w h1 (by omega))
      have a2 := m2 (f i) (hf i hji (by omega)).1 (hf i hji (by omega)).2
      omega
theorem wc_arr {post : St2 → Prop} {N c cut cnt : Nat} (hN : N ≤ 6) (hmo : (cg = 0 ∧ ab = -1) ∨ ¬ cg = 0) (hc : c < 2 ^ 31) (hcut : cut < 2 ^ 31)
    (H : ∀ t, post (nI N, fd, fl, nI (wc_ar cg (cut, cnt) c).1, ab, nI (wc_ar cg (cut, cnt) c).2, cg, l1, l2, l3, l4, a1, a2, a3, a4, a5, a6, a7, a8, a9, t)) :
    wpX_arrive post (nI N, fd, fl, nI cut, ab, nI cnt, cg, l1, l2, l3, l4, a1, a2, a3, a4, a5, a6, a7, a8, a9, a10) (nI c) := by
  unfold wpX_arrive
  refine br_c (fun e => ?_) (fun e => pk_le cut c (fun z => ?_) (fun z => nm_r (nI_1 cnt) ?_))
  · obtain ⟨_, e2⟩ : cg = 0 ∧ ab = -1 := by
      rcases hmo with q | q
      · exact q
      · exact absurd e q
    subst e2
    refine br_f ?_ (pk_le cut c (fun z => ?_) (fun z => ?_))
    · rw [Int32.le_iff_toInt_le, nI_toInt hc, show (-1 : Int32).toInt = -1 from by decide]
      omega
    · have := H a10
      rw [wc_ar_n z] at this
      exact this
    · refine pk_loop (fun n i t => wX_arrive_51 post (nI N) fd fl (nI c) (-1) (nI cnt) cg l1 l2 l3 l4 n (nI i) a1 a2 a3 a4 a5 a6 a7 a8 a9 t) (fun _ _ => True) N 0 a10 (by omega) trivial
        (fun n t _ => pk_le N N (fun _ => ?_) (fun z => absurd z (by omega)))
        (fun n i t hi _ hww => pk_le N i (fun z => absurd z (by omega)) (fun _ => ⟨pk_in i 7 (by omega), pk_in i 6 (by omega), nm_e (nm_r (nI_1 i) (hww _ trivial))⟩))
      have := H t
      subst e
      rw [wc_ar_0 z] at this
      exact this
  · have := H a10
    rw [wc_ar_n z] at this
    exact this
  · have := H a10
    rw [wc_ar_1 e z] at this
    exact this
end
end
section
/-! walk: search. A node at depth j with r levels below, y values left (x the next) -/
def wc_w (D : Nat) : Nat → Nat
  | 0 => 0
  | r + 1 => D * (1 + wc_w D r) + 1
theorem wc_w_s (D r : Nat) : wc_w D (r + 1) = D * (1 + wc_w D r) + 1 := rfl
theorem wc_w_bd : ∀ D, D < 4 → ∀ r, r < 6 → 0 + D * (1 + wc_w D r) + 1 ≤ 4000 := by decide
theorem wc_Xb {N D F j w b : Nat} {T : (Nat → Nat) → Nat} {s p g : Nat → Nat} (hD : 0 < D) (hN : N ≤ 6) (h : wc_J N D T F s p) (hT : ∀ g, wc_ok N D g → T g ≤ 36000000) (hg : wc_ok N D g) (hj : j ≤ w) (hw : w < N) (hb : b < D) : wc_X s p g j w b ≤ 300000000 := by
  obtain ⟨_, h1, h2⟩ := wc_Jb hD h hT
  unfold wc_X
  have q1 := h1 w b hw hb
  have q2 := wc_sm_bd (f := fun i => p ((6 * i + w) * 9 + 3 * g i + b)) (c := 36000000) j (fun i hi => h2 i w (g i) b hw (by omega) (hg i (by omega)) hb)
  omega
theorem wc_Rlow {F j : Nat} {s p f : Nat → Nat} : ∀ n, j + 1 ≤ n → wc_R F s p f (j + 1) + wc_sm (fun i => if j < i then wc_X s p f (j + 1) i (f i) else 0) n ≤ wc_R F s p f n := by
  intro n
  induction n with
  | zero => exact fun h => absurd h (by omega)
  | succ n ih =>
    intro h
    by_cases e : j = n
    · subst e
      have := wc_sm_bd (f := fun i => if j < i then wc_X s p f (j + 1) i (f i) else 0) (c := 0) (j + 1) (fun i hi => by rw [if_neg (by omega)]; exact Nat.le_refl _)
      omega
    · have q := ih (by omega)
      rw [wc_R_s (n := n), wc_sm_s, if_pos (by omega)]
      have q2 : wc_X s p f (j + 1) n (f n) ≤ wc_X s p f n n (f n) := by
        unfold wc_X
        have := wc_sm_pre (f := fun i => p ((6 * i + n) * 9 + 3 * f i + f n)) n (j + 1) (by omega)
        omega
      omega
section
variable {fn fd fl cu ab co cg l1 l2 l3 l4 : Int32} {a1 a2 a3 a4 a5 a6 a7 a8 a9 a10 : Nat → Int32}
theorem wc_node {post : St2 → Prop} {N D F : Nat} {T : (Nat → Nat) → Nat} {mk s p : Nat → Nat} (hN : N ≤ 6) (hD : 1 ≤ D) (hD3 : D ≤ 3) (hm : ∀ k, mk k ≤ 7) (hJ : wc_J N D T F s p)
    (hT : ∀ g, wc_ok N D g → T g ≤ 36000000) (hK : ∀ g v, wc_ok N D g → v < N → ¬ mk v / 2 ^ g v % 2 = 1 → 1000000 ≤ T g) (hmo : (cg = 0 ∧ ab = -1) ∨ ¬ cg = 0) :
    ∀ r j, j + r + 1 = N → ∀ y x, x + y = D → ∀ (t n cut cnt : Nat) (g : Nat → Nat) (a7 a8 a9 a10 : Nat → Int32), wc_ok N D g → cut ≤ 500000 → t + y * (1 + wc_w D r) + 1 ≤ 4000 → 4001 ≤ n + t →
      (∀ i, i < j → a9 i = nI (g i)) → a9 j + 1 = nI x → a8 j = nI (wc_R F s p g j) → wc_R F s p g j ≤ 36000000 → (∀ w b, j ≤ w → w < N → b < D → wc_E (a7 (18 * j + 3 * w + b)) (wc_X s p g j w b)) →
      (∀ (t' n' cut' cnt' : Nat) (a7' a8' a9' a10' : Nat → Int32), t' ≤ t + y * (1 + wc_w D r) + 1 → 4001 ≤ n' + t' → (cut', cnt') = (wc_sb T D r j g x).foldl (wc_ar cg) (cut, cnt) →
        (∀ i, i < j → a9' i = a9 i) → (∀ i, i < j → a8' i = a8 i) → (∀ k, k < 18 * j → a7' k = a7 k) →
        (j = 0 → post (nI N, nI D, fl, nI cut', ab, nI cnt', cg, l1, l2, l3, l4, a1, a2, a3, wc_A mk, a5, wc_A p, a7', a8', a9', a10')) ∧
        (∀ j', j = j' + 1 → wX_search_47 post n' (nI j') (nI t') (nI N) (nI D) fl (nI cut') ab (nI cnt') cg l1 l2 l3 l4 a1 a2 a3 (wc_A mk) a5 (wc_A p) a7' a8' a9' a10')) →
      wX_search_47 post n (nI j) (nI t) (nI N) (nI D) fl (nI cut) ab (nI cnt) cg l1 l2 l3 l4 a1 a2 a3 (wc_A mk) a5 (wc_A p) a7 a8 a9 a10 := by
  intro r
  induction r using Nat.strongRecOn with
  | ind r IH =>
    intro j hj y
    induction y with
    | zero =>
      intro x hx t n cut cnt g a7 a8 a9 a10 hg hc ht hn h9 h9j h8 hR h7 H
      obtain ⟨n, rfl⟩ : ∃ k, n = k + 1 := ⟨n - 1, by omega⟩
      refine br_f (nI_ge (b := 4000) (by omega) (by decide)) ⟨pk_in j 7 (by omega), pk_in j 7 (by omega), nm_r (e' := upd a9 j (nI x)) (by rw [nI_clamp (by omega), h9j]) ⟨pk_in j 7 (by omega), br_t (by rw [nI_clamp (by omega), pk_us, show x = D by omega]) ?_⟩⟩
      have q := H (t + 1) n cut cnt a7 a8 (upd a9 j (nI x)) a10 (by omega) (by omega) (by rw [show x = D by omega, wc_sb_e]; rfl) (fun i hi => pk_un (by omega)) (fun i _ => rfl) (fun k _ => rfl)
      cases j with
      | zero => exact nm_e (br_f (by decide) (q.1 rfl))
      | succ j => exact nm_r (pk_m1 j) (br_t (nI_pos' (by omega)) (nm_r (nI_1 t) (q.2 j rfl)))
    | succ y ih =>
      intro x hx t n cut cnt g a7 a8 a9 a10 hg hc ht hn h9 h9j h8 hR h7 H
      have hxD : x < D := by omega
      have em : (y + 1) * (1 + wc_w D r) = y * (1 + wc_w D r) + (1 + wc_w D r) := Nat.succ_mul _ _
      obtain ⟨n, rfl⟩ : ∃ k, n = k + 1 := ⟨n - 1, by omega⟩
      have hg' : wc_ok N D (wc_up g j x) := wc_ok_up hg hxD
      have gc : ∀ i, i < j → wc_up g j x i = g i := fun i hi => wc_un (by omega)
      have NEXT : ∀ (t' n' cut' cnt' : Nat) (a7' a8' a9' a10' : Nat → Int32), t' ≤ t + (1 + wc_w D r) → 4001 ≤ n' + t' → (cut', cnt') = (wc_lv T D r (j + 1) (wc_up g j x)).foldl (wc_ar cg) (cut, cnt) →
          (∀ i, i < j → a9' i = a9 i) → a9' j = nI x → (∀ i, i ≤ j → a8' i = a8 i) → (∀ k, k < 18 * j + 18 → a7' k = a7 k) →
          wX_search_47 post n' (nI j) (nI t') (nI N) (nI D) fl (nI cut') ab (nI cnt') cg l1 l2 l3 l4 a1 a2 a3 (wc_A mk) a5 (wc_A p) a7' a8' a9' a10' := by
        intro t' n' cut' cnt' b7 b8 b9 b10 e1 e2 e3 e4 e5 e6 e7
        have c1 : cut' ≤ 500000 := by
          have := wc_fo_le (cg := cg) (wc_lv T D r (j + 1) (wc_up g j x)) (cut, cnt)
          rw [← e3] at this
          exact Nat.le_trans this hc
        refine ih (x + 1) (by omega) t' n' cut' cnt' g b7 b8 b9 b10 hg c1 (by omega) e2 (fun i hi => by rw [e4 i hi, h9 i hi]) (by rw [e5, nI_1]) (by rw [e6 j (Nat.le_refl _), h8]) hR (fun w b h1 h2 h3 => by rw [e7 _ (by omega)]; exact h7 w b h1 h2 h3)
          (fun t2 n2 cut2 cnt2 d7 d8 d9 d10 f1 f2 f3 f4 f5 f6 => H t2 n2 cut2 cnt2 d7 d8 d9 d10 (by omega) f2 ?_ (fun i hi => by rw [f4 i hi, e4 i hi]) (fun i hi => by rw [f5 i hi, e6 i (by omega)]) (fun k hk => by rw [f6 k hk, e7 k (by omega)]))
        rw [f3, e3, wc_sb_s hxD, List.foldl_append]
      have SKIP : (∀ f, wc_ok N D f → (∀ i, i < j + 1 → f i = wc_up g j x i) → cut ≤ T f) → (cut, cnt) = (wc_lv T D r (j + 1) (wc_up g j x)).foldl (wc_ar cg) (cut, cnt) := by
        intro q
        rw [wc_fo_n _ (fun c hc' => ?_)]
        obtain ⟨f, f1, f2, f3⟩ := wc_lv_ok (N := N) (by omega) hg' hc'
        rw [f3]
        exact q f f1 f2
      have a9e : upd a9 j (nI x) (nI j).toNatClampNeg = nI x := by rw [nI_clamp (by omega), pk_us]
      refine br_f (nI_ge (b := 4000) (by omega) (by decide)) ⟨pk_in j 7 (by omega), pk_in j 7 (by omega), nm_r (e' := upd a9 j (nI x)) (by rw [nI_clamp (by omega), h9j]) ⟨pk_in j 7 (by omega), br_f (by rw [a9e, nI_eq (by omega) (by omega)]; omega) ⟨pk_in j 6 (by omega), pk_in j 7 (by omega), ?_⟩⟩⟩
      refine wc_bitE (m := mk j) (b := x) (hm j) (by omega) (fun hb => ?_) (fun hb => nm_r (nI_1 t) (NEXT (t + 1) n cut cnt a7 a8 (upd a9 j (nI x)) a10 (by omega) (by omega) (SKIP (fun f f1 f2 => ?_)) (fun i hi => pk_un (by omega)) pk_us (fun i _ => rfl) (fun k _ => rfl))) (by rw [wc_get j rfl (by omega), a9e])
      rotate_left
      · have := hK f j f1 (by omega) (by rw [f2 j (by omega), wc_us]; exact hb)
        omega
      obtain ⟨e, e1, e2, e3⟩ := h7 j x (Nat.le_refl _) (by omega) hxD
      have Xe := wc_Xb (j := j) (w := j) (b := x) (by omega) hN hJ hT hg (Nat.le_refl _) (by omega) hxD
      have ie : (((18 : Int32) * nI j + 3 * nI j) + (upd a9 j (nI x) (nI j).toNatClampNeg)) = nI (18 * j + 3 * j + x) := by
        rw [a9e]
        exact wc_ie j j x
      have Re : wc_R F s p (wc_up g j x) (j + 1) = wc_R F s p g j + wc_X s p g j j x := by rw [wc_R_s, wc_R_congr gc, wc_X_congr gc, wc_us]
      refine ⟨pk_in j 7 (by omega), pk_in j 7 (by omega), pk_in _ 126 (by omega) ie, nm_r (e' := nI (wc_R F s p g j + e)) (by rw [ie, nI_clamp (by omega), nI_clamp (by omega), h8, e1, nI_add]) ?_⟩
      refine pk_eq j (N - 1) (fun z => ?_) (fun z => ?_) rfl (pk_sub (b := 1) (by omega))
      · have r0 : r = 0 := by omega
        refine wc_arr hN hmo (by omega) (by omega) (fun b10 => nm_r (nI_1 t) (NEXT (t + 1) n _ _ a7 a8 (upd a9 j (nI x)) b10 (by omega) (by omega) ?_ (fun i hi => pk_un (by omega)) pk_us (fun i _ => rfl) (fun k _ => rfl)))
        rw [r0, wc_lv_0]
        show wc_ar cg (cut, cnt) (wc_R F s p g j + e) = wc_ar cg (cut, cnt) (T (wc_up g j x))
        have Te : T (wc_up g j x) = wc_R F s p g j + wc_X s p g j j x := by
          rw [← hJ _ hg', ← Re, show N = j + 1 by omega]
        rcases e3 with q | q
        · rw [Te, q]
        · rw [wc_ar_n (show cut ≤ _ by omega), wc_ar_n (show cut ≤ _ by omega)]
      · obtain ⟨r', rfl⟩ : ∃ k, r = k + 1 := ⟨r - 1, by omega⟩
        refine wc_rem (g := wc_up g j x) (s := s) hm hN (by omega) hD3 (by rw [wc_us]; omega) (by rw [pk_us, wc_us]) (fun w b h1 h2 h3 => wc_Xb (by omega) hN hJ hT hg' (by omega) h2 h3) (fun w b h1 h2 h3 => by rw [wc_X_congr gc]; exact h7 w b (by omega) h2 h3) (fun rr b7 q1 q2 q3 q4 => ?_)
        refine pk_le cut (wc_R F s p g j + e + rr) (fun z => nm_r (nI_1 t) (NEXT (t + 1) n cut cnt b7 a8 (upd a9 j (nI x)) a10 (by omega) (by omega) (SKIP (fun f f1 f2 => ?_)) (fun i hi => pk_un (by omega)) pk_us (fun i _ => rfl) q2))
          (fun z => nm_r (nI_1 j) ⟨pk_in (j + 1) 7 (by omega), nm_r (e' := upd a8 (j + 1) (nI (wc_R F s p g j + e))) (by rw [nI_clamp (by omega)]) ⟨pk_in (j + 1) 7 (by omega), nm_r (e' := upd (upd a9 j (nI x)) (j + 1) (-1)) (by rw [nI_clamp (by omega)]) (nm_r (nI_1 t) ?_)⟩⟩) rfl (nI_add _ _) (by omega) (by omega)
        · by_cases qm : ∀ w, j < w → w < N → mk w / 2 ^ f w % 2 = 1
          · have l1 := q4 f (fun w h1 h2 => ⟨f1 w h2, qm w h1 h2⟩)
            have l2 := wc_Rlow (F := F) (s := s) (p := p) (f := f) (j := j) N (by omega)
            rw [hJ f f1, wc_R_congr f2, Re] at l2
            have l3 : wc_sm (fun i => if j < i then wc_X s p f (j + 1) i (f i) else 0) N = wc_sm (fun i => if j < i then wc_X s p (wc_up g j x) (j + 1) i (f i) else 0) N := wc_sm_congr N (fun i _ => by rw [wc_X_congr f2])
            omega
          · apply Classical.byContradiction
            intro nc
            apply qm
            intro w h1 h2
            apply Classical.byContradiction
            intro q
            have := hK f w f1 h2 q
            omega
        · have ex : e = wc_X s p g j j x := by omega
          have ew := wc_w_s D r'
          refine IH r' (by omega) (j + 1) (by omega) D 0 (by omega) (t + 1) n cut cnt (wc_up g j x) b7 (upd a8 (j + 1) (nI (wc_R F s p g j + e))) (upd (upd a9 j (nI x)) (j + 1) (-1)) a10 hg' hc (by omega) (by omega) (fun i hi => ?_) (by rw [pk_us]; decide) (by rw [pk_us, Re, ex]) (by rw [Re]; omega) (fun w b h1 h2 h3 => by rw [show 18 * (j + 1) = 18 * j + 18 by omega]; exact q3 w b (by omega) h2 h3)
            (fun t2 n2 cut2 cnt2 d7 d8 d9 d10 f1 f2 f3 f4 f5 f6 => ⟨fun q => absurd q (by omega), fun j' hj' => ?_⟩)
          · rw [pk_un (by omega)]
            by_cases c : i = j
            · rw [c, pk_us, wc_us]
            · rw [pk_un c, wc_un c]
              exact h9 i (by omega)
          · obtain rfl : j' = j := by omega
            exact NEXT t2 n2 cut2 cnt2 d7 d8 d9 d10 (by omega) f2 (by rw [f3, wc_lv_s]) (fun i hi => by rw [f4 i (by omega), pk_un (by omega), pk_un (by omega)]) (by rw [f4 j' (by omega), pk_un (by omega), pk_us]) (fun i hi => by rw [f5 i (by omega), pk_un (by omega)]) (fun k hk => by rw [f6 k (by omega), q2 k hk])
theorem wc_search {post : St2 → Prop} {N D F cut cnt : Nat} {T : (Nat → Nat) → Nat} {mk s p : Nat → Nat} (hN : N ≤ 6) (hN1 : 1 ≤ N) (hD : 1 ≤ D) (hD3 : D ≤ 3) (hm : ∀ k, mk k ≤ 7) (hJ : wc_J N D T F s p)
    (hT : ∀ g, wc_ok N D g → T g ≤ 36000000) (hK : ∀ g v, wc_ok N D g → v < N → ¬ mk v / 2 ^ g v % 2 = 1 → 1000000 ≤ T g) (hmo : (cg = 0 ∧ ab = -1) ∨ ¬ cg = 0) (hc : cut ≤ 500000)
    (H : ∀ b7 b8 b9 b10, post (nI N, nI D, nI F, nI ((wc_lv T D N 0 (fun _ => 0)).foldl (wc_ar cg) (cut, cnt)).1, ab, nI ((wc_lv T D N 0 (fun _ => 0)).foldl (wc_ar cg) (cut, cnt)).2, cg, l1, l2, l3, l4, a1, a2, a3, wc_A mk, wc_A s, wc_A p, b7, b8, b9, b10)) :
    wpX_search post (nI N, nI D, nI F, nI cut, ab, nI cnt, cg, l1, l2, l3, l4, a1, a2, a3, wc_A mk, wc_A s, wc_A p, a7, a8, a9, a10) := by
  unfold wpX_search
  refine pk_loop (fun n i t => wX_search_2 post (nI N) (nI D) (nI F) (nI cut) ab (nI cnt) cg l1 l2 l3 l4 n (nI i) a1 a2 a3 (wc_A mk) (wc_A s) (wc_A p) t a8 a9 a10) (fun i t => ∀ k, k < i → t k = nI (s k)) 18 0 a7 (by omega) (fun k hk => absurd hk (by omega))
    (fun n t h => pk_le 18 18 (fun _ => nm_e (nm_e ⟨4001, ?_⟩)) (fun z => absurd z (by omega))) ?_
  · obtain ⟨r, rfl⟩ : ∃ k, N = k + 1 := ⟨N - 1, by omega⟩
    have k0 : wc_ok (r + 1) D (fun _ => 0) := fun v hv => hD
    have hF := (wc_Jb (by omega) hJ hT).1
    refine wc_node hN hD hD3 hm hJ hT hK hmo r 0 (by omega) D 0 (by omega) 0 4001 cut cnt (fun _ => 0) t (upd a8 0 (nI F)) (upd a9 0 (-1)) a10 k0 hc (wc_w_bd D (by omega) r (by omega)) (by omega) (fun i hi => absurd hi (by omega)) (by rw [pk_us]; decide) (by rw [pk_us]; rfl) (show F + 0 ≤ _ from hF) (fun w b h1 h2 h3 => ?_)
      (fun t2 n2 cut2 cnt2 d7 d8 d9 d10 f1 f2 f3 f4 f5 f6 => ⟨fun q => ?_, fun j' hj' => absurd hj' (by omega)⟩)
    · refine ⟨s (3 * w + b), ?_, ?_, Or.inl ?_⟩
      · rw [h _ (by omega)]
        exact congrArg (fun z => nI (s z)) (by omega)
      · exact Nat.le_refl _
      · rfl
    · have := H d7 d8 d9 d10
      rw [wc_lv_s, ← f3] at this
      exact this
  · intro n i t hi h hw
    refine pk_le 18 i (fun z => absurd z (by omega)) (fun _ => ⟨pk_in i 18 hi, pk_in i 126 (by omega), nm_r (e' := upd t i (nI (s i))) (by rw [wc_get i rfl (by omega), nI_clamp (by omega)]) (nm_r (nI_1 i) (hw _ (fun k hk => ?_)))⟩)
    by_cases c : k = i
    · rw [c, pk_us]
    · rw [pk_un c]
      exact h k (by omega)
end
end
section
/-! walks: the questions, over the state that lasts -/
def wc_Km (N D : Nat) (U B A mk : Nat → Nat) (u : St2) : Prop := ∃ (fl cu ab co cg l1 l2 l3 l4 : Int32) (a5 a6 a7 a8 a9 a10 : Nat → Int32), u = (nI N, nI D, fl, cu, ab, co, cg, l1, l2, l3, l4, wc_A U, wc_A B, wc_A A, wc_A mk, a5, a6, a7, a8, a9, a10)
/-- sizes, and what the tables hold -/
def wc_Z (N D : Nat) (U B A : Nat → Nat) : Prop := 2 ≤ N ∧ N ≤ 6 ∧ 2 ≤ D ∧ D ≤ 3 ∧ (∀ k, U k ≤ 99) ∧ (∀ k, B k ≤ 99) ∧ (∀ k, A k ≤ 7)
def wc_K (N D : Nat) (U B A : Nat → Nat) (u : St2) : Prop := ∃ mk, (∀ k, mk k ≤ 7) ∧ wc_Km N D U B A mk u
def wc_L (N D : Nat) (U B M : Nat → Nat) : List Nat := wc_lv (wc_T N U B M) D N 0 (fun _ => 0)
theorem wc_Ie (x : Int32) : ∃ k : Nat, x = nI k := by
  refine ⟨x.toBitVec.toNat, ?_⟩
  show x = Int32.ofNat (x.toBitVec.toNat)
  apply Int32.toBitVec_inj.1
  show x.toBitVec = BitVec.ofNat 32 (x.toBitVec.toNat)
  simp
theorem wc_nand (a b : Nat) : nI a &&& nI b = nI (a &&& b) := by
  apply Int32.toBitVec_inj.1
  show BitVec.ofNat 32 a &&& BitVec.ofNat 32 b = BitVec.ofNat 32 (a &&& b)
  apply BitVec.eq_of_getLsbD_eq
  intro i hi
  simp [hi]
theorem wc_Tm {N D : Nat} {U B mk M : Nat → Nat} (hD3 : D ≤ 3) (hM : ∀ v, v < N → mk v = M v) : ∀ g v, wc_ok N D g → v < N → ¬ mk v / 2 ^ g v % 2 = 1 → 1000000 ≤ wc_T N U B M g := by
  intro g v hg hv h
  refine wc_T_mask hv (by have := hg v hv; omega) ?_
  rw [← hM v hv]
  exact h
theorem wc_Tc {N : Nat} {U B M : Nat → Nat} : ∀ h h' : Nat → Nat, (∀ i, i < N → h i = h' i) → wc_T N U B M h = wc_T N U B M h' := fun _ _ e => wc_T_congr e
theorem wc_least {post : Int32 → St2 → Prop} {N D : Nat} {U B A mk M : Nat → Nat} {u : St2} (hZ : wc_Z N D U B A) (hm : ∀ k, mk k ≤ 7) (hM : ∀ v, v < N → mk v = M v) (hu : wc_Km N D U B A mk u)
    (H : ∀ c u', wc_Bst (wc_T N U B M) N D c → wc_Km N D U B A mk u' → post (if 500000 ≤ c then -1 else nI c) u') : wpX_least post u (-1) := by
  obtain ⟨hN2, hN, hD2, hD3, hU, hB, hA⟩ := hZ
  obtain ⟨fl, cu, ab, co, cg, l1, l2, l3, l4, a5, a6, a7, a8, a9, a10, rfl⟩ := hu
  obtain ⟨k, rfl⟩ := wc_Ie co
  unfold wpX_least
  refine wc_prep hN (by omega) (by omega) hD3 hU hB hm hM (fun F s p hJ => ?_)
  refine wc_search (cut := 500000) (cnt := k) hN (by omega) (by omega) hD3 hm hJ (fun g _ => wc_T_bd hN hU hB g) (wc_Tm hD3 hM) (Or.inl ⟨rfl, rfl⟩) (Nat.le_refl _) (fun b7 b8 b9 b10 => ?_)
  have hb := wc_Bst_of (D := D) (by omega) (wc_Tc (N := N) (U := U) (B := B) (M := M)) k
  have q := H _ _ hb ⟨nI F, nI ((wc_lv (wc_T N U B M) D N 0 (fun _ => 0)).foldl (wc_ar 0) (500000, k)).1, -1, nI ((wc_lv (wc_T N U B M) D N 0 (fun _ => 0)).foldl (wc_ar 0) (500000, k)).2, 0, l1, l2, l3, l4, wc_A s, wc_A p, b7, b8, b9, b10, rfl⟩
  have hle := hb.1
  refine pk_le 500000 ((wc_lv (wc_T N U B M) D N 0 (fun _ => 0)).foldl (wc_ar 0) (500000, k)).1 (fun z => ?_) (fun z => ?_)
  · rw [if_pos z] at q
    exact q
  · rw [if_neg (by omega)] at q
    exact q
theorem wc_count {post : Int32 → St2 → Prop} {N D b : Nat} {U B A mk M : Nat → Nat} {u : St2} (hZ : wc_Z N D U B A) (hm : ∀ k, mk k ≤ 7) (hM : ∀ v, v < N → mk v = M v) (hu : wc_Km N D U B A mk u) (hb : b < 500000)
    (H : ∀ u', wc_Km N D U B A mk u' → post (nI (wc_ct (wc_L N D U B M) (b + 1))) u') : wpX_count post u (nI b) := by
  obtain ⟨hN2, hN, hD2, hD3, hU, hB, hA⟩ := hZ
  obtain ⟨fl, cu, ab, co, cg, l1, l2, l3, l4, a5, a6, a7, a8, a9, a10, rfl⟩ := hu
  unfold wpX_count
  refine wc_prep hN (by omega) (by omega) hD3 hU hB hm hM (fun F s p hJ => ?_)
  refine nm_r (nI_1 b) (wc_search (cut := b + 1) (cnt := 0) hN (by omega) (by omega) hD3 hm hJ (fun g _ => wc_T_bd hN hU hB g) (wc_Tm hD3 hM) (Or.inr (by decide)) hb (fun b7 b8 b9 b10 => ?_))
  have q := H _ ⟨nI F, nI ((wc_lv (wc_T N U B M) D N 0 (fun _ => 0)).foldl (wc_ar 1) (b + 1, 0)).1, ab, nI ((wc_lv (wc_T N U B M) D N 0 (fun _ => 0)).foldl (wc_ar 1) (b + 1, 0)).2, 1, l1, l2, l3, l4, wc_A s, wc_A p, b7, b8, b9, b10, rfl⟩
  have e : ((wc_lv (wc_T N U B M) D N 0 (fun _ => 0)).foldl (wc_ar 1) (b + 1, 0)).2 = wc_ct (wc_L N D U B M) (b + 1) := by
    rw [wc_fo_1 (by decide)]
    show 0 + wc_ct (wc_L N D U B M) (b + 1) = _
    omega
  show post (nI ((wc_lv (wc_T N U B M) D N 0 (fun _ => 0)).foldl (wc_ar 1) (b + 1, 0)).2) _
  rw [← e] at q
  exact q
theorem wc_openK {post : St2 → Prop} {N D : Nat} {U B A : Nat → Nat} {u : St2} (hZ : wc_Z N D U B A) (hu : wc_K N D U B A u)
    (H : ∀ mk u', (∀ k, mk k ≤ 7) → (∀ v, v < N → mk v = A v) → wc_Km N D U B A mk u' → post u') : wpX_openMasks post u := by
  obtain ⟨hN2, hN, hD2, hD3, hU, hB, hA⟩ := hZ
  obtain ⟨mk, hm, fl, cu, ab, co, cg, l1, l2, l3, l4, a5, a6, a7, a8, a9, a10, rfl⟩ := hu
  refine wc_open hN (fun mk' e1 e2 => H mk' _ (fun k => ?_) e1 ⟨fl, cu, ab, co, cg, l1, l2, l3, l4, a5, a6, a7, a8, a9, a10, rfl⟩)
  by_cases c : k < N
  · rw [e1 k c]
    exact hA k
  · rw [e2 k c]
    exact hm k
theorem wc_best {post : Int32 → St2 → Prop} {N D : Nat} {U B A : Nat → Nat} {u : St2} (hZ : wc_Z N D U B A) (hu : wc_K N D U B A u)
    (H : ∀ c u', wc_Bst (wc_T N U B A) N D c → wc_K N D U B A u' → post (if 500000 ≤ c then -1 else nI c) u') : wpX_best post u := by
  obtain ⟨mk, hm, fl, cu, ab, co, cg, l1, l2, l3, l4, a5, a6, a7, a8, a9, a10, rfl⟩ := hu
  unfold wpX_best
  refine wc_openK hZ ⟨mk, hm, fl, cu, ab, co, cg, l1, l2, l3, l4, a5, a6, a7, a8, a9, a10, rfl⟩ (fun mk' u' m1 m2 m3 => ?_)
  obtain ⟨fl, cu, ab, co, cg, l1, l2, l3, l4, a5, a6, a7, a8, a9, a10, rfl⟩ := m3
  refine wc_least hZ m1 m2 ⟨fl, cu, ab, co, cg, l1, l2, l3, l4, a5, a6, a7, a8, a9, a10, rfl⟩ (fun c u' h1 h2 => ?_)
  obtain ⟨fl, cu, ab, co, cg, l1, l2, l3, l4, a5, a6, a7, a8, a9, a10, rfl⟩ := h2
  exact H c _ h1 ⟨mk', m1, fl, cu, ab, co, cg, l1, l2, l3, l4, a5, a6, a7, a8, a9, a10, rfl⟩
theorem wc_upto {post : Int32 → St2 → Prop} {N D b : Nat} {U B A : Nat → Nat} {u : St2} (hZ : wc_Z N D U B A) (hu : wc_K N D U B A u) (hb : b < 500000)
    (H : ∀ u', wc_K N D U B A u' → post (nI (wc_ct (wc_L N D U B A) (b + 1))) u') : wpX_countUpTo post u (nI b) := by
  obtain ⟨mk, hm, fl, cu, ab, co, cg, l1, l2, l3, l4, a5, a6, a7, a8, a9, a10, rfl⟩ := hu
  unfold wpX_countUpTo
  refine br_t (nI_pos' (by omega)) (wc_openK hZ ⟨mk, hm, fl, cu, ab, co, cg, l1, l2, l3, l4, a5, a6, a7, a8, a9, a10, rfl⟩ (fun mk' u' m1 m2 m3 => ?_))
  obtain ⟨fl, cu, ab, co, cg, l1, l2, l3, l4, a5, a6, a7, a8, a9, a10, rfl⟩ := m3
  refine br_f (nI_ge (b := 500000) hb (by decide)) ?_
  unfold wX_countUpTo_23
  refine wc_count hZ m1 m2 ⟨fl, cu, ab, co, cg, l1, l2, l3, l4, a5, a6, a7, a8, a9, a10, rfl⟩ hb (fun u' h2 => ?_)
  obtain ⟨fl, cu, ab, co, cg, l1, l2, l3, l4, a5, a6, a7, a8, a9, a10, rfl⟩ := h2
  exact H _ ⟨mk', m1, fl, cu, ab, co, cg, l1, l2, l3, l4, a5, a6, a7, a8, a9, a10, rfl⟩
theorem wc_upto0 {post : Int32 → St2 → Prop} {u : St2} (H : post 0 u) : wpX_countUpTo post u (-1) := by
  obtain ⟨fn, fd, fl, cu, ab, co, cg, l1, l2, l3, l4, a1, a2, a3, a4, a5, a6, a7, a8, a9, a10⟩ := u
  unfold wpX_countUpTo
  exact br_f (by decide) H
theorem wc_bcount {post : Int32 → St2 → Prop} {N D c : Nat} {U B A : Nat → Nat} {u : St2} (hZ : wc_Z N D U B A) (hu : wc_K N D U B A u) (hc : c < 500000) (hB : wc_Bst (wc_T N U B A) N D c)
    (H : ∀ u', wc_K N D U B A u' → post (nI (wc_ct (wc_L N D U B A) (c + 1))) u') : wpX_bestCount post u := by
  obtain ⟨mk, hm, fl, cu, ab, co, cg, l1, l2, l3, l4, a5, a6, a7, a8, a9, a10, rfl⟩ := hu
  unfold wpX_bestCount
  refine wc_openK hZ ⟨mk, hm, fl, cu, ab, co, cg, l1, l2, l3, l4, a5, a6, a7, a8, a9, a10, rfl⟩ (fun mk' u' m1 m2 m3 => ?_)
  obtain ⟨fl, cu, ab, co, cg, l1, l2, l3, l4, a5, a6, a7, a8, a9, a10, rfl⟩ := m3
  refine wc_least hZ m1 m2 ⟨fl, cu, ab, co, cg, l1, l2, l3, l4, a5, a6, a7, a8, a9, a10, rfl⟩ (fun c' u' h1 h2 => ?_)
  obtain ⟨fl, cu, ab, co, cg, l1, l2, l3, l4, a5, a6, a7, a8, a9, a10, rfl⟩ := h2
  obtain rfl := wc_Bst_u hB h1
  rw [if_neg (by omega)]
  refine br_t (nI_pos' (by omega)) ?_
  refine wc_count hZ m1 m2 ⟨fl, cu, ab, co, cg, l1, l2, l3, l4, a5, a6, a7, a8, a9, a10, rfl⟩ hc (fun u' h2 => ?_)
  obtain ⟨fl, cu, ab, co, cg, l1, l2, l3, l4, a5, a6, a7, a8, a9, a10, rfl⟩ := h2
  exact H _ ⟨mk', m1, fl, cu, ab, co, cg, l1, l2, l3, l4, a5, a6, a7, a8, a9, a10, rfl⟩
theorem wc_isVar {post : Int32 → Prop} {N v : Nat} {u : St2} (hu : u.1 = nI N) (hN : N ≤ 6) (hv : v < N) (H : post 1) : wpX_isVar post u (nI v) := by
  obtain ⟨fn, fd, fl, cu, ab, co, cg, l1, l2, l3, l4, a1, a2, a3, a4, a5, a6, a7, a8, a9, a10⟩ := u
  obtain rfl : fn = nI N := hu
  unfold wpX_isVar
  exact br_f (nI_pos (by omega)) (br_f (nI_ge hv (by omega)) H)
theorem wc_isValue {post : Int32 → Prop} {D x : Nat} {u : St2} (hu : u.2.1 = nI D) (hD : D ≤ 6) (hx : x < D) (H : post 1) : wpX_isValue post u (nI x) := by
  obtain ⟨fn, fd, fl, cu, ab, co, cg, l1, l2, l3, l4, a1, a2, a3, a4, a5, a6, a7, a8, a9, a10⟩ := u
  obtain rfl : fd = nI D := hu
  unfold wpX_isValue
  exact br_f (nI_pos (by omega)) (br_f (nI_ge hx (by omega)) H)
theorem wc_shl1 {x : Nat} (hx : x < 3) : (1 : Int32) <<< (nI x &&& 31) = nI (2 ^ x) := by
  have h : 2 ^ x ≤ 2 ^ 3 := Nat.pow_le_pow_right (by decide) (by omega)
  have := pk_shlN (n := 1) (nI x &&& 31) x (wc_sl x (by omega)) (by omega)
  rw [Nat.one_mul] at this
  exact this
theorem wc_bwith {post : Int32 → St2 → Prop} {N D v x : Nat} {U B A : Nat → Nat} {u : St2} (hZ : wc_Z N D U B A) (hu : wc_K N D U B A u) (hv : v < N) (hx : x < D)
    (H : ∀ c u', wc_Bst (wc_T N U B (wc_up A v (A v &&& 2 ^ x))) N D c → wc_K N D U B A u' → post (if 500000 ≤ c then -3 else nI c) u') : wpX_bestWith post u (nI v) (nI x) := by
  have hZ0 := hZ
  obtain ⟨hN2, hN, hD2, hD3, hU, hB, hA⟩ := hZ0
  obtain ⟨mk, hm, fl, cu, ab, co, cg, l1, l2, l3, l4, a5, a6, a7, a8, a9, a10, rfl⟩ := hu
  unfold wpX_bestWith
  refine wc_isVar rfl hN hv (br_f (by decide) (wc_isValue rfl (by omega) hx (br_f (by decide) (wc_openK hZ ⟨mk, hm, fl, cu, ab, co, cg, l1, l2, l3, l4, a5, a6, a7, a8, a9, a10, rfl⟩ (fun mk' u' m1 m2 m3 => ?_)))))
  obtain ⟨fl, cu, ab, co, cg, l1, l2, l3, l4, a5, a6, a7, a8, a9, a10, rfl⟩ := m3
  refine ⟨pk_in v 6 (by omega), pk_in v 6 (by omega), nm_r (e' := wc_A (wc_up mk' v (mk' v &&& 2 ^ x))) (wc_put v _ rfl (by rw [wc_get v rfl (by omega), wc_shl1 (by omega), wc_nand]) (by omega)) ?_⟩
  have m4 : ∀ k, wc_up mk' v (mk' v &&& 2 ^ x) k ≤ 7 := by
    intro k
    by_cases c : k = v
    · rw [c, wc_us]
      exact Nat.le_trans Nat.and_le_left (m1 v)
    · rw [wc_un c]
      exact m1 k
  have m5 : ∀ w, w < N → wc_up mk' v (mk' v &&& 2 ^ x) w = wc_up A v (A v &&& 2 ^ x) w := by
    intro w hw
    by_cases c : w = v
    · rw [c, wc_us, wc_us, m2 v hv]
    · rw [wc_un c, wc_un c, m2 w hw]
  refine wc_least hZ m4 m5 ⟨fl, cu, ab, co, cg, l1, l2, l3, l4, a5, a6, a7, a8, a9, a10, rfl⟩ (fun c u' h1 h2 => ?_)
  obtain ⟨fl, cu, ab, co, cg, l1, l2, l3, l4, a5, a6, a7, a8, a9, a10, rfl⟩ := h2
  have q := H c _ h1 ⟨_, m4, fl, cu, ab, co, cg, l1, l2, l3, l4, a5, a6, a7, a8, a9, a10, rfl⟩
  by_cases z : 500000 ≤ c
  · rw [if_pos z] at q ⊢
    exact br_f (by decide) q
  · rw [if_neg z] at q ⊢
    exact br_t (nI_pos' (by omega)) q
end
section
/-! walk: the law's check -/
/-- the least total among the assignments whose value of v is below x -/
def wc_In (T : (Nat → Nat) → Nat) (N D v x l : Nat) : Prop := l ≤ 500000 ∧ (∀ f, wc_ok N D f → f v < x → l ≤ T f) ∧ (l = 500000 ∨ ∃ f, wc_ok N D f ∧ f v < x ∧ T f = l)
theorem wc_In_e {T : (Nat → Nat) → Nat} {N D v l : Nat} (hv : v < N) (h : wc_In T N D v D l) : wc_Bst T N D l := by
  obtain ⟨h1, h2, h3⟩ := h
  refine ⟨h1, fun f hf => h2 f hf (hf v hv), ?_⟩
  rcases h3 with e | ⟨f, hf, _, e⟩
  · exact Or.inl e
  · exact Or.inr ⟨f, hf, e⟩
theorem wc_In_s {N D v x l l' c : Nat} {U B A : Nat → Nat} (hZ : wc_Z N D U B A) (hv : v < N) (hx : x < D) (h : wc_In (wc_T N U B A) N D v x l) (hc : wc_Bst (wc_T N U B (wc_up A v (A v &&& 2 ^ x))) N D c)
    (h1 : l' ≤ l) (h2 : l' ≤ c) (h3 : l' = l ∨ l' = c) : wc_In (wc_T N U B A) N D v (x + 1) l' := by
  obtain ⟨hN2, hN, hD2, hD3, hU, hB, hA⟩ := hZ
  obtain ⟨i1, i2, i3⟩ := h
  obtain ⟨c1, c2, c3⟩ := hc
  have g3 : ∀ f, wc_ok N D f → ∀ v, v < N → f v < 3 := fun f hf v hv => by
    have := hf v hv
    omega
  refine ⟨by omega, fun f hf hfx => ?_, ?_⟩
  · by_cases e : f v = x
    · have := c2 f hf
      rw [wc_T_one hA (g3 f hf) hv (by omega) e] at this
      omega
    · have := i2 f hf (by omega)
      omega
  · rcases h3 with e | e
    · rcases i3 with q | ⟨f, f1, f2, f3⟩
      · exact Or.inl (by omega)
      · exact Or.inr ⟨f, f1, by omega, by omega⟩
    · rcases c3 with q | ⟨f, f1, f3⟩
      · exact Or.inl (by omega)
      · by_cases d : f v = x
        · rw [wc_T_one hA (g3 f f1) hv (by omega) d] at f3
          exact Or.inr ⟨f, f1, by omega, by omega⟩
        · have := wc_T_two (U := U) (B := B) hA (g3 f f1) hv (by omega) d
          omega
theorem wc_h45 {post : Int32 → St2 → Prop} {J33 : Int32 → Int32 → Int32 → Int32 → Int32 → Int32 → Int32 → Int32 → Int32 → Int32 → Int32 → Int32 → (Nat → Int32) → (Nat → Int32) → (Nat → Int32) → (Nat → Int32) → (Nat → Int32) → (Nat → Int32) → (Nat → Int32) → (Nat → Int32) → (Nat → Int32) → (Nat → Int32) → Prop}
    {N D v c : Nat} {U B A : Nat → Nat} (hZ : wc_Z N D U B A) (hv : v < N) (hc : c < 500000) (hB : wc_Bst (wc_T N U B A) N D c)
    (H : ∀ (mk : Nat → Nat) (fl cu ab co cg l1 l2 l3 l4 : Int32) (a5 a6 a7 a8 a9 a10 : Nat → Int32), (∀ k, mk k ≤ 7) → J33 (nI (v + 1)) (nI N) (nI D) fl cu ab co cg l1 l2 l3 l4 (wc_A U) (wc_A B) (wc_A A) (wc_A mk) a5 a6 a7 a8 a9 a10) :
    ∀ y x l, x + y = D → wc_In (wc_T N U B A) N D v x l → ∀ (mk : Nat → Nat) (fl cu ab co cg l1 l2 l3 l4 : Int32) (a5 a6 a7 a8 a9 a10 : Nat → Int32), (∀ k, mk k ≤ 7) →
      wL_holds_45 post J33 (nI N) (nI D) (nI c) (nI v) (y + 1) (if 500000 ≤ l then -1 else nI l) (nI x) (nI N) (nI D) fl cu ab co cg l1 l2 l3 l4 (wc_A U) (wc_A B) (wc_A A) (wc_A mk) a5 a6 a7 a8 a9 a10 := by
  have hZ0 := hZ
  obtain ⟨hN2, hN, hD2, hD3, _, _, hA⟩ := hZ0
  intro y
  induction y with
  | zero =>
    intro x l hx hl mk fl cu ab co cg l1 l2 l3 l4 a5 a6 a7 a8 a9 a10 hm
    obtain rfl : x = D := by omega
    obtain rfl := wc_Bst_u hB (wc_In_e hv hl)
    rw [if_neg (by omega)]
    exact br_t (nI_le (Nat.le_refl _) (by omega)) (br_t rfl (nm_r (nI_1 v) (H mk fl cu ab co cg l1 l2 l3 l4 a5 a6 a7 a8 a9 a10 hm)))
  | succ y ih =>
    intro x l hx hl mk fl cu ab co cg l1 l2 l3 l4 a5 a6 a7 a8 a9 a10 hm
    refine br_f (nI_ge (by omega) (by omega)) (wc_bwith hZ ⟨mk, hm, fl, cu, ab, co, cg, l1, l2, l3, l4, a5, a6, a7, a8, a9, a10, rfl⟩ hv (by omega) (fun c' u' hB' hK' => ?_))
    obtain ⟨mk', hm', fl, cu, ab, co, cg, l1, l2, l3, l4, a5, a6, a7, a8, a9, a10, rfl⟩ := hK'
    have hl1 := hl.1
    have go : ∀ l', l' ≤ l → l' ≤ c' → (l' = l ∨ l' = c') → wL_holds_45 post J33 (nI N) (nI D) (nI c) (nI v) (y + 1) (if 500000 ≤ l' then -1 else nI l') (nI (x + 1)) (nI N) (nI D) fl cu ab co cg l1 l2 l3 l4 (wc_A U) (wc_A B) (wc_A A) (wc_A mk') a5 a6 a7 a8 a9 a10 :=
      fun l' q1 q2 q3 => ih (x + 1) l' (by omega) (wc_In_s hZ hv (by omega) hl hB' q1 q2 q3) mk' fl cu ab co cg l1 l2 l3 l4 a5 a6 a7 a8 a9 a10 hm'
    by_cases z : 500000 ≤ c'
    · rw [if_pos z]
      exact br_t (by decide) (nm_r (nI_1 x) (go l (Nat.le_refl _) (by omega) (Or.inl rfl)))
    · rw [if_neg z]
      refine br_f (nI_pos (by omega)) ?_
      by_cases zl : 500000 ≤ l
      · have q := go c' (by omega) (Nat.le_refl _) (Or.inr rfl)
        rw [if_neg z] at q
        rw [if_pos zl]
        exact br_t (by decide) (nm_r (nI_1 x) q)
      · rw [if_neg zl]
        refine br_f (nI_pos (by omega)) (pk_le l c' (fun q => nm_r (nI_1 x) ?_) (fun q => nm_r (nI_1 x) ?_))
        · have w := go l (Nat.le_refl _) q (Or.inl rfl)
          rw [if_neg zl] at w
          exact w
        · have w := go c' (by omega) (Nat.le_refl _) (Or.inr rfl)
          rw [if_neg z] at w
          exact w
theorem wc_h33 {post : Int32 → St2 → Prop} {N D c : Nat} {U B A : Nat → Nat} (hZ : wc_Z N D U B A) (hc : c < 500000) (hB : wc_Bst (wc_T N U B A) N D c) (H : ∀ u', wc_K N D U B A u' → post 1 u') :
    ∀ y v, v + y = N → ∀ (mk : Nat → Nat) (fl cu ab co cg l1 l2 l3 l4 : Int32) (a5 a6 a7 a8 a9 a10 : Nat → Int32), (∀ k, mk k ≤ 7) →
      wL_holds_33 post (nI N) (nI D) (nI c) (y + 1) (nI v) (nI N) (nI D) fl cu ab co cg l1 l2 l3 l4 (wc_A U) (wc_A B) (wc_A A) (wc_A mk) a5 a6 a7 a8 a9 a10 := by
  have hZ0 := hZ
  obtain ⟨hN2, hN, hD2, hD3, _, _, hA⟩ := hZ0
  intro y
  induction y with
  | zero =>
    intro v hv mk fl cu ab co cg l1 l2 l3 l4 a5 a6 a7 a8 a9 a10 hm
    refine br_t (nI_le (by omega) (by omega)) (wc_upto hZ ⟨mk, hm, fl, cu, ab, co, cg, l1, l2, l3, l4, a5, a6, a7, a8, a9, a10, rfl⟩ hc (fun u' hK' => ?_))
    obtain ⟨mk, hm, fl, cu, ab, co, cg, l1, l2, l3, l4, a5, a6, a7, a8, a9, a10, rfl⟩ := hK'
    refine wc_bcount hZ ⟨mk, hm, fl, cu, ab, co, cg, l1, l2, l3, l4, a5, a6, a7, a8, a9, a10, rfl⟩ hc hB (fun u' hK' => ?_)
    obtain ⟨mk, hm, fl, cu, ab, co, cg, l1, l2, l3, l4, a5, a6, a7, a8, a9, a10, rfl⟩ := hK'
    refine br_t rfl ?_
    cases c with
    | zero => exact wc_upto0 (br_t rfl (H _ ⟨mk, hm, fl, cu, ab, co, cg, l1, l2, l3, l4, a5, a6, a7, a8, a9, a10, rfl⟩))
    | succ c =>
      rw [nI_pred]
      refine wc_upto hZ ⟨mk, hm, fl, cu, ab, co, cg, l1, l2, l3, l4, a5, a6, a7, a8, a9, a10, rfl⟩ (by omega) (fun u' hK' => ?_)
      obtain ⟨mk, hm, fl, cu, ab, co, cg, l1, l2, l3, l4, a5, a6, a7, a8, a9, a10, rfl⟩ := hK'
      have e : wc_ct (wc_L N D U B A) (c + 1) = 0 := wc_ct_z (by omega) hB.2.1
      rw [e]
      exact br_t rfl (H _ ⟨mk, hm, fl, cu, ab, co, cg, l1, l2, l3, l4, a5, a6, a7, a8, a9, a10, rfl⟩)
  | succ y ih =>
    intro v hv mk fl cu ab co cg l1 l2 l3 l4 a5 a6 a7 a8 a9 a10 hm
    refine br_f (nI_ge (by omega) (by omega)) ⟨D + 1, ?_⟩
    have := wc_h45 (post := post) (J33 := wL_holds_33 post (nI N) (nI D) (nI c) (y + 1)) hZ (show v < N by omega) hc hB (fun mk fl cu ab co cg l1 l2 l3 l4 a5 a6 a7 a8 a9 a10 hm => ih (v + 1) (by omega) mk fl cu ab co cg l1 l2 l3 l4 a5 a6 a7 a8 a9 a10 hm)
      D 0 500000 (by omega) ⟨Nat.le_refl _, fun f _ h => absurd h (by omega), Or.inl rfl⟩ mk fl cu ab co cg l1 l2 l3 l4 a5 a6 a7 a8 a9 a10 hm
    rw [if_pos (Nat.le_refl _)] at this
    exact this
theorem wc_holds {post : Int32 → St2 → Prop} {N D : Nat} {U B A : Nat → Nat} {u : St2} (hZ : wc_Z N D U B A) (hu : wc_K N D U B A u) (H : ∀ u', wc_K N D U B A u' → post 1 u') : wpL_holds post u (nI N) (nI D) := by
  have hZ0 := hZ
  obtain ⟨hN2, hN, hD2, hD3, _, _, hA⟩ := hZ0
  obtain ⟨mk, hm, fl, cu, ab, co, cg, l1, l2, l3, l4, a5, a6, a7, a8, a9, a10, rfl⟩ := hu
  unfold wpL_holds
  refine wc_best hZ ⟨mk, hm, fl, cu, ab, co, cg, l1, l2, l3, l4, a5, a6, a7, a8, a9, a10, rfl⟩ (fun c u' hB hK' => ?_)
  obtain ⟨mk, hm, fl, cu, ab, co, cg, l1, l2, l3, l4, a5, a6, a7, a8, a9, a10, rfl⟩ := hK'
  by_cases z : 500000 ≤ c
  · rw [if_pos z]
    refine br_f (by decide) (br_t rfl (wc_upto (b := 10000) hZ ⟨mk, hm, fl, cu, ab, co, cg, l1, l2, l3, l4, a5, a6, a7, a8, a9, a10, rfl⟩ (by omega) (fun u' hK' => ?_)))
    obtain ⟨mk, hm, fl, cu, ab, co, cg, l1, l2, l3, l4, a5, a6, a7, a8, a9, a10, rfl⟩ := hK'
    have e : wc_ct (wc_L N D U B A) (10000 + 1) = 0 := wc_ct_z (by omega) (fun f hf => by have := hB.2.1 f hf; omega)
    rw [e]
    exact br_t rfl (H _ ⟨mk, hm, fl, cu, ab, co, cg, l1, l2, l3, l4, a5, a6, a7, a8, a9, a10, rfl⟩)
  · rw [if_neg z]
    exact br_t (nI_pos' (by omega)) ⟨N + 1, wc_h33 hZ (by omega) hB H N 0 (by omega) mk fl cu ab co cg l1 l2 l3 l4 a5 a6 a7 a8 a9 a10 hm⟩
end
section
/-! walks: a turn (unary, binary, relate, allow) -/
def wc_KK (N D : Nat) (u : St2) : Prop := ∃ U B A, wc_Z N D U B A ∧ wc_K N D U B A u
theorem wc_up_le {s : Nat → Nat} {k x M : Nat} (h : ∀ k, s k ≤ M) (hx : x ≤ M) : ∀ j, wc_up s k x j ≤ M := by
  intro j
  by_cases c : j = k
  · rw [c, wc_us]
    exact hx
  · rw [wc_un c]
    exact h j
theorem wc_isCost {post : Int32 → Prop} {x : Int32} (H : ∀ r, post r) : wpX_isCost post () x := by
  have q : wX_isCost_10 post x := by
    unfold wX_isCost_10
    exact br_c (fun _ => H _) (fun _ => H _)
  unfold wpX_isCost
  exact br_c (fun _ => q) (fun _ => br_c (fun _ => H _) (fun _ => q))
theorem wc_unary {post : Int32 → St2 → Prop} {N D v a c : Nat} {x y z : Int32} {u : St2} (hx : x = nI v) (hy : y = nI a) (hz : z = nI c) (hv : v < N) (ha : a < D) (hc : c ≤ 99) (hu : wc_KK N D u) (H : ∀ r u', wc_KK N D u' → post r u') : wpX_unary post u x y z := by
  subst hx hy hz
  obtain ⟨U, B, A, hZ, mk, hm, fl, cu, ab, co, cg, l1, l2, l3, l4, a5, a6, a7, a8, a9, a10, rfl⟩ := hu
  have hZ0 := hZ
  obtain ⟨hN2, hN, hD2, hD3, hU, hB, hA⟩ := hZ0
  have H0 := fun r => H r _ ⟨U, B, A, hZ, mk, hm, fl, cu, ab, co, cg, l1, l2, l3, l4, a5, a6, a7, a8, a9, a10, rfl⟩
  unfold wpX_unary
  refine wc_isVar rfl hN hv (br_f (by decide) (wc_isValue rfl (by omega) ha (br_f (by decide) (wc_isCost (fun r => br_c (fun _ => H0 _) (fun _ => ⟨pk_in (3 * v + a) 18 (by omega) (wc_i3 v a), nm_e ⟨pk_in (3 * v + a) 18 (by omega) (wc_i3 v a), nm_r (wc_put (3 * v + a) c (wc_i3 v a) rfl (by omega)) (H _ _ ?_)⟩⟩))))))
  exact ⟨wc_up U (3 * v + a) c, B, A, ⟨hN2, hN, hD2, hD3, wc_up_le hU hc, hB, hA⟩, mk, hm, fl, cu, ab, co, cg, l1, l2, l3, l4, a5, a6, a7, a8, a9, a10, rfl⟩
theorem wc_shlD {D : Nat} (hD : D ≤ 3) : (1 : Int32) <<< (nI D &&& 31) - 1 = nI (2 ^ D - 1) := by
  have h : 2 ^ D ≤ 2 ^ 3 := Nat.pow_le_pow_right (by decide) (by omega)
  have h0 : 0 < 2 ^ D := Nat.two_pow_pos D
  have e : (1 : Int32) <<< (nI D &&& 31) = nI (2 ^ D) := by
    have := pk_shlN (n := 1) (nI D &&& 31) D (wc_sl D (by omega)) (by omega)
    rw [Nat.one_mul] at this
    exact this
  rw [e]
  exact pk_sub (b := 1) h0
theorem wc_allow {post : Int32 → St2 → Prop} {N D v m : Nat} {x y : Int32} {u : St2} (hx : x = nI v) (hy : y = nI m) (hv : v < N) (hm7 : m ≤ 7) (hu : wc_KK N D u) (H : ∀ r u', wc_KK N D u' → post r u') : wpX_allow post u x y := by
  subst hx hy
  obtain ⟨U, B, A, hZ, mk, hm, fl, cu, ab, co, cg, l1, l2, l3, l4, a5, a6, a7, a8, a9, a10, rfl⟩ := hu
  have hZ0 := hZ
  obtain ⟨hN2, hN, hD2, hD3, hU, hB, hA⟩ := hZ0
  have H0 := fun r => H r _ ⟨U, B, A, hZ, mk, hm, fl, cu, ab, co, cg, l1, l2, l3, l4, a5, a6, a7, a8, a9, a10, rfl⟩
  unfold wpX_allow
  refine wc_isVar rfl hN hv (br_f (by decide) (br_c (fun _ => H0 _) (fun _ => br_c (fun _ => ⟨pk_in v 6 (by omega), nm_e ⟨pk_in v 6 (by omega), nm_r (wc_put v m rfl rfl (by omega)) (H _ _ ?_)⟩⟩) (fun _ => H0 _))))
  exact ⟨U, B, wc_up A v m, ⟨hN2, hN, hD2, hD3, hU, hB, wc_up_le hA hm7⟩, mk, hm, fl, cu, ab, co, cg, l1, l2, l3, l4, a5, a6, a7, a8, a9, a10, rfl⟩
section
variable {fn fd fl cu ab co cg l1 l2 l3 l4 : Int32} {a1 a2 a3 a4 a5 a6 a7 a8 a9 a10 : Nat → Int32}
theorem wc_tp58 {post : Int32 → St2 → Prop} {x2 x3 z0 : Int32} (H : ∀ r, post r (fn, fd, fl, cu, ab, co, cg, l1, z0, l3, l4, a1, a2, a3, a4, a5, a6, a7, a8, a9, a10)) : wX_takePair_58 post x2 x3 z0 fn fd fl cu ab co cg l1 l2 l3 l4 a1 a2 a3 a4 a5 a6 a7 a8 a9 a10 := by
  unfold wX_takePair_58
  exact br_c (fun _ => H _) (fun _ => H _)
theorem wc_tpair {post : Int32 → St2 → Prop} {N q : Nat} (hN2 : 2 ≤ N) (hN : N ≤ 6) (hq : q < N * N) (H : ∀ p v r, p < 6 → v < 6 → post r (nI N, fd, fl, cu, ab, co, cg, nI p, nI v, l3, l4, a1, a2, a3, a4, a5, a6, a7, a8, a9, a10)) : wpX_takePair post (nI N, fd, fl, cu, ab, co, cg, l1, l2, l3, l4, a1, a2, a3, a4, a5, a6, a7, a8, a9, a10) (nI q) := by
  have hNN : N * N ≤ 36 := Nat.mul_le_mul hN hN
  have q1 : q / N < 6 := by
    have : q / N < N := Nat.div_lt_of_lt_mul hq
    omega
  have q2 : q % N < 6 := by
    have : q % N < N := Nat.mod_lt _ (by omega)
    omega
  have t44 : ∀ z, z < 6 → wX_takePair_44 post (nI (q / N)) (nI (q % N)) (nI z) (nI N) fd fl cu ab co cg l1 l2 l3 l4 a1 a2 a3 a4 a5 a6 a7 a8 a9 a10 := by
    intro z hz
    unfold wX_takePair_44
    exact br_c (fun _ => wc_tp58 (fun r => H _ _ _ hz q1)) (fun _ => wc_tp58 (fun r => H _ _ _ hz q2))
  unfold wpX_takePair
  refine br_f (nI_pos (by omega)) (br_t (by rw [pk_mul]; exact nI_lt hq (by omega)) ⟨nI_ne0 (by omega) (by omega), nm_r (pk_div (by omega) (by omega) (by omega)) ⟨nI_ne0 (by omega) (by omega), nm_r (pk_rem (by omega) (by omega) (by omega)) ?_⟩⟩)
  exact br_c (fun _ => t44 _ q2) (fun _ => t44 _ q1)
theorem wc_tvals {post : Int32 → St2 → Prop} {N D q w : Nat} (hN2 : 2 ≤ N) (hN : N ≤ 6) (hD2 : 2 ≤ D) (hD3 : D ≤ 3) (hw : w < D * D) (H : ∀ a b, a < 3 → b < 3 → post 1 (nI N, nI D, fl, cu, ab, co, cg, l1, l2, nI a, nI b, a1, a2, a3, a4, a5, a6, a7, a8, a9, a10)) : wpX_takeValues post (nI N, nI D, fl, cu, ab, co, cg, l1, l2, l3, l4, a1, a2, a3, a4, a5, a6, a7, a8, a9, a10) (nI q) (nI w) := by
  have hDD : D * D ≤ 9 := Nat.mul_le_mul hD3 hD3
  have q1 : w / D < 3 := by
    have : w / D < D := Nat.div_lt_of_lt_mul hw
    omega
  have q2 : w % D < 3 := by
    have : w % D < D := Nat.mod_lt _ (by omega)
    omega
  have t60 : ∀ (x3 : Int32) z, z < 3 → wX_takeValues_60 post (nI w) x3 (nI z) (nI N) (nI D) fl cu ab co cg l1 l2 l3 l4 a1 a2 a3 a4 a5 a6 a7 a8 a9 a10 := by
    intro x3 z hz
    unfold wX_takeValues_60
    exact br_c (fun _ => ⟨nI_ne0 (by omega) (by omega), nm_r (pk_div (by omega) (by omega) (by omega)) (H _ _ hz q1)⟩) (fun _ => ⟨nI_ne0 (by omega) (by omega), nm_r (pk_rem (by omega) (by omega) (by omega)) (H _ _ hz q2)⟩)
  have t39 : ∀ (z0 : Int32), wX_takeValues_39 post (nI w) z0 (nI N) (nI D) fl cu ab co cg l1 l2 l3 l4 a1 a2 a3 a4 a5 a6 a7 a8 a9 a10 := by
    intro z0
    unfold wX_takeValues_39
    rw [pk_rem (by omega) (by omega) (by omega), pk_div (by omega) (by omega) (by omega)]
    exact br_c (fun _ => ⟨nI_ne0 (by omega) (by omega), t60 _ _ q2⟩) (fun _ => ⟨nI_ne0 (by omega) (by omega), t60 _ _ q1⟩)
  unfold wpX_takeValues
  exact br_f (nI_pos (by omega)) (br_t (by rw [pk_mul]; exact nI_lt hw (by omega)) ⟨nI_ne0 (by omega) (by omega), nI_ne0 (by omega) (by omega), br_c (fun _ => t39 _) (fun _ => t39 _)⟩)
theorem wc_r113 {post : Int32 → St2 → Prop} {J38 : Int32 → (Nat → Int32) → (Nat → Int32) → (Nat → Int32) → (Nat → Int32) → (Nat → Int32) → (Nat → Int32) → (Nat → Int32) → (Nat → Int32) → (Nat → Int32) → (Nat → Int32) → Prop}
    {p v w k a b t : Nat} {B : Nat → Nat} {x2 : Int32} (hp : p < 6) (hv : v < 6) (ha : a < 3) (hb : b < 3) (hw : w ≤ 10) (ht : t ≤ 4) (hB : ∀ k, B k ≤ 99) (H : ∀ B', (∀ k, B' k ≤ 99) → J38 (nI (k + 1)) a1 (wc_A B') a3 a4 a5 a6 a7 a8 a9 a10) :
    wX_relate_113 post J38 x2 (nI w) (nI k) (nI a) (nI b) (nI t) fn fd fl cu ab co cg (nI p) (nI v) l3 l4 a1 (wc_A B) a3 a4 a5 a6 a7 a8 a9 a10 := by
  have hwt : w * t ≤ 10 * 4 := Nat.mul_le_mul hw ht
  unfold wX_relate_113
  exact wc_cellw p v a b ⟨pk_in ((6 * p + v) * 9 + 3 * a + b) 324 (by omega), nm_r (wc_put ((6 * p + v) * 9 + 3 * a + b) (w * t) rfl (pk_mul w t) (by omega)) (nm_r (nI_1 k) (H _ (wc_up_le hB (by omega))))⟩
theorem wc_r77 {post : Int32 → St2 → Prop} {J38 : Int32 → (Nat → Int32) → (Nat → Int32) → (Nat → Int32) → (Nat → Int32) → (Nat → Int32) → (Nat → Int32) → (Nat → Int32) → (Nat → Int32) → (Nat → Int32) → (Nat → Int32) → Prop}
    {p v w k a b t : Nat} {B : Nat → Nat} {x2 : Int32} (hp : p < 6) (hv : v < 6) (ha : a < 3) (hb : b < 3) (hw : w ≤ 10) (ht : t ≤ 4) (hB : ∀ k, B k ≤ 99) (H : ∀ B', (∀ k, B' k ≤ 99) → J38 (nI (k + 1)) a1 (wc_A B') a3 a4 a5 a6 a7 a8 a9 a10) :
    wX_relate_77 post J38 x2 (nI w) (nI k) (nI a) (nI b) (nI t) fn fd fl cu ab co cg (nI p) (nI v) l3 l4 a1 (wc_A B) a3 a4 a5 a6 a7 a8 a9 a10 := by
  have hab : a * b ≤ 2 * 2 := Nat.mul_le_mul (by omega) (by omega)
  unfold wX_relate_77 wX_relate_96
  exact br_c (fun _ => br_c (fun _ => wc_r113 (t := 1) hp hv ha hb hw (by omega) hB H) (fun _ => wc_r113 (t := 0) hp hv ha hb hw (by omega) hB H)) (fun _ => br_c (fun _ => nm_r (pk_mul a b) (wc_r113 hp hv ha hb hw (by omega) hB H)) (fun _ => wc_r113 hp hv ha hb hw ht hB H))
theorem wc_r38 {post : Int32 → St2 → Prop} {p v w : Nat} {B : Nat → Nat} {x2 : Int32} (hp : p < 6) (hv : v < 6) (hw : w ≤ 10) (hB : ∀ k, B k ≤ 99) (H : ∀ B', (∀ k, B' k ≤ 99) → post 0 (fn, fd, fl, cu, ab, co, cg, nI p, nI v, l3, l4, a1, wc_A B', a3, a4, a5, a6, a7, a8, a9, a10)) :
    ∃ n, wX_relate_38 post x2 (nI w) fn fd fl cu ab co cg (nI p) (nI v) l3 l4 n 0 a1 (wc_A B) a3 a4 a5 a6 a7 a8 a9 a10 := by
  refine pk_loop (fun n i t => wX_relate_38 post x2 (nI w) fn fd fl cu ab co cg (nI p) (nI v) l3 l4 n (nI i) a1 (wc_A t) a3 a4 a5 a6 a7 a8 a9 a10) (fun i t => ∀ k, t k ≤ 99) 9 0 B (by omega) hB
    (fun n t h => pk_le 9 9 (fun _ => H t h) (fun z => absurd z (by omega))) ?_
  intro n i t hi h hww
  refine pk_le 9 i (fun z => absurd z (by omega)) (fun _ => ⟨by decide, nm_r (wc_d3 (by omega)) ⟨by decide, nm_r (wc_r3 (by omega)) ?_⟩⟩)
  refine pk_le (i % 3) (i / 3) (fun z => ?_) (fun z => ?_)
  · rw [pk_sub z]
    exact wc_r77 hp hv (by omega) (by omega) hw (by omega) h hww
  · rw [pk_sub (Nat.le_of_lt z)]
    exact wc_r77 hp hv (by omega) (by omega) hw (by omega) h hww
end
theorem wc_relate {post : Int32 → St2 → Prop} {N D q w : Nat} {x y z : Int32} {u : St2} (hx : x = nI q) (hz : z = nI w) (hq : q < N * N) (hw : w ≤ 10) (hu : wc_KK N D u) (H : ∀ r u', wc_KK N D u' → post r u') : wpX_relate post u x y z := by
  subst hx hz
  obtain ⟨U, B, A, hZ, mk, hm, fl, cu, ab, co, cg, l1, l2, l3, l4, a5, a6, a7, a8, a9, a10, rfl⟩ := hu
  have hZ0 := hZ
  obtain ⟨hN2, hN, hD2, hD3, hU, hB, hA⟩ := hZ0
  unfold wpX_relate
  refine wc_tpair hN2 hN hq (fun p v r hp hv => ?_)
  have H0 := fun r => H r _ ⟨U, B, A, hZ, mk, hm, fl, cu, ab, co, cg, nI p, nI v, l3, l4, a5, a6, a7, a8, a9, a10, rfl⟩
  refine br_c (fun _ => H0 _) (fun _ => br_c (fun _ => H0 _) (fun _ => br_c (fun _ => br_c (fun _ => H0 _) (fun _ => br_c (fun _ => ?_) (fun _ => H0 _))) (fun _ => H0 _)))
  exact wc_r38 hp hv hw hB (fun B' hB' => H _ _ ⟨U, B', A, ⟨hN2, hN, hD2, hD3, hU, hB', hA⟩, mk, hm, fl, cu, ab, co, cg, nI p, nI v, l3, l4, a5, a6, a7, a8, a9, a10, rfl⟩)
theorem wc_binary {post : Int32 → St2 → Prop} {N D q w c : Nat} {x y z : Int32} {u : St2} (hx : x = nI q) (hy : y = nI w) (hz : z = nI c) (hq : q < N * N) (hw : w < D * D) (hc : c ≤ 99) (hu : wc_KK N D u) (H : ∀ r u', wc_KK N D u' → post r u') : wpX_binary post u x y z := by
  subst hx hy hz
  obtain ⟨U, B, A, hZ, mk, hm, fl, cu, ab, co, cg, l1, l2, l3, l4, a5, a6, a7, a8, a9, a10, rfl⟩ := hu
  have hZ0 := hZ
  obtain ⟨hN2, hN, hD2, hD3, hU, hB, hA⟩ := hZ0
  unfold wpX_binary
  refine wc_tpair hN2 hN hq (fun p v r hp hv => ?_)
  refine br_c (fun _ => H _ _ ⟨U, B, A, hZ, mk, hm, fl, cu, ab, co, cg, nI p, nI v, l3, l4, a5, a6, a7, a8, a9, a10, rfl⟩) (fun _ => wc_tvals hN2 hN hD2 hD3 hw (fun a b ha hb => br_f (by decide) (wc_isCost (fun r => ?_))))
  refine br_c (fun _ => H _ _ ⟨U, B, A, hZ, mk, hm, fl, cu, ab, co, cg, nI p, nI v, nI a, nI b, a5, a6, a7, a8, a9, a10, rfl⟩) (fun _ => wc_cellw p v a b ⟨pk_in ((6 * p + v) * 9 + 3 * a + b) 324 (by omega), nm_e ⟨pk_in ((6 * p + v) * 9 + 3 * a + b) 324 (by omega), nm_r (wc_put ((6 * p + v) * 9 + 3 * a + b) c rfl rfl (by omega)) (H _ _ ?_)⟩⟩)
  exact ⟨U, wc_up B _ c, A, ⟨hN2, hN, hD2, hD3, hU, wc_up_le hB hc, hA⟩, mk, hm, fl, cu, ab, co, cg, nI p, nI v, nI a, nI b, a5, a6, a7, a8, a9, a10, rfl⟩
theorem wc_turn {post : St2 → Prop} {N D q : Nat} {c : Int32} {u : St2} (hq : q < 4096) (hu : wc_KK N D u) (H : ∀ u', wc_KK N D u' → post u') : wpL_turn post u c (nI q) (nI N) (nI D) := by
  have hu0 := hu
  obtain ⟨U, B, A, hZ, mk, hm, fl, cu, ab, co, cg, l1, l2, l3, l4, a5, a6, a7, a8, a9, a10, rfl⟩ := hu0
  have hZ0 := hZ
  obtain ⟨hN2, hN, hD2, hD3, hU, hB, hA⟩ := hZ0
  obtain ⟨op, hop, eop⟩ := pk_andE c (m := 7) 3 (by decide)
  obtain ⟨p, hp, ep⟩ := pk_andE (c >>> ((3 : Int32) &&& 31)) (m := 63) 6 (by decide)
  have e63 : nI q &&& 63 = nI (q % 64) := pk_andN (by omega) 6 (by decide)
  have hNN : N * N ≤ 36 := Nat.mul_le_mul hN hN
  have hNN0 : 0 < N * N := Nat.mul_pos (by omega) (by omega)
  have hDD : D * D ≤ 9 := Nat.mul_le_mul hD3 hD3
  have hDD0 : 0 < D * D := Nat.mul_pos (by omega) (by omega)
  have hpD : 2 ^ D ≤ 2 ^ 3 := Nat.pow_le_pow_right (by decide) (by omega)
  have hpD2 : 2 ^ 2 ≤ 2 ^ D := Nat.pow_le_pow_right (by decide) (by omega)
  have s6 : nI q >>> ((6 : Int32) &&& 31) = nI (q / 64) := pk_shrN (by omega) _ 6 (by decide)
  have s2 : nI q >>> ((2 : Int32) &&& 31) = nI (q / 4) := pk_shrN (by omega) _ 2 (by decide)
  have main : ∀ cost, cost ≤ 99 → wL_turn_41 post (nI q) (nI N) (nI D) (nI op) (nI p) (nI (p % N)) (nI cost) (nI N) (nI D) fl cu ab co cg l1 l2 l3 l4 (wc_A U) (wc_A B) (wc_A A) (wc_A mk) a5 a6 a7 a8 a9 a10 := by
    intro cost hcost
    unfold wL_turn_41
    refine br_c (fun _ => br_c (fun _ => br_c (fun _ => ⟨?_, ?_⟩) (fun _ => ⟨?_, by decide, by decide, ?_⟩)) (fun _ => ⟨?_, ?_, ?_⟩)) (fun _ => ⟨nI_ne0 (by omega) (by omega), ?_⟩)
    · rw [wc_shlD hD3]
      exact nI_ne0 (by omega) (by omega)
    · refine wc_allow (v := p % N) (m := 1 + q % (2 ^ D - 1)) rfl ?_ (Nat.mod_lt _ (by omega)) ?_ hu (fun r u' hu' => ?_)
      · rw [wc_shlD hD3, pk_rem (by omega) (by omega) (by omega)]
        exact nI_add 1 _
      · have := Nat.mod_lt q (show 0 < 2 ^ D - 1 by omega)
        omega
      · have := H u' hu'
        obtain ⟨fn, fd, fl, cu, ab, co, cg, l1, l2, l3, l4, a1, a2, a3, a4, a5, a6, a7, a8, a9, a10⟩ := u'
        exact this
    · rw [pk_mul]
      exact nI_ne0 hNN0 (by omega)
    · refine wc_relate (q := p % (N * N)) (w := q / 4 % 11) ?_ ?_ (Nat.mod_lt _ hNN0) (by omega) hu (fun r u' hu' => ?_)
      · rw [pk_mul, pk_rem (by omega) hNN0 (by omega)]
      · rw [s2]
        exact pk_rem (d := 11) (by omega) (by omega) (by omega)
      · have := H u' hu'
        obtain ⟨fn, fd, fl, cu, ab, co, cg, l1, l2, l3, l4, a1, a2, a3, a4, a5, a6, a7, a8, a9, a10⟩ := u'
        exact this
    · rw [pk_mul]
      exact nI_ne0 hNN0 (by omega)
    · rw [pk_mul]
      exact nI_ne0 hDD0 (by omega)
    · refine wc_binary (q := p % (N * N)) (w := q / 64 % (D * D)) ?_ ?_ rfl (Nat.mod_lt _ hNN0) (Nat.mod_lt _ hDD0) hcost hu (fun r u' hu' => ?_)
      · rw [pk_mul, pk_rem (by omega) hNN0 (by omega)]
      · rw [s6, pk_mul, pk_rem (by omega) hDD0 (by omega)]
      · have := H u' hu'
        obtain ⟨fn, fd, fl, cu, ab, co, cg, l1, l2, l3, l4, a1, a2, a3, a4, a5, a6, a7, a8, a9, a10⟩ := u'
        exact this
    · refine wc_unary (v := p % N) (a := q / 64 % D) rfl ?_ rfl (Nat.mod_lt _ (by omega)) (Nat.mod_lt _ (by omega)) hcost hu (fun r u' hu' => ?_)
      · rw [s6, pk_rem (by omega) (by omega) (by omega)]
      · have := H u' hu'
        obtain ⟨fn, fd, fl, cu, ab, co, cg, l1, l2, l3, l4, a1, a2, a3, a4, a5, a6, a7, a8, a9, a10⟩ := u'
        exact this
  unfold wpL_turn
  refine nm_r eop (nm_r ep ⟨nI_ne0 (by omega) (by omega), nm_r (pk_rem (by omega) (by omega) (by omega)) ?_⟩)
  rw [e63]
  refine br_c (fun _ => ⟨by decide, ?_⟩) (fun _ => main 99 (by omega))
  have e41 : nI (q % 64) - nI (q % 64) / 41 * 41 = nI (q % 64 % 41) := pk_rem (d := 41) (by omega) (by omega) (by omega)
  rw [e41]
  exact main _ (by omega)
end
section
/-! walks: the constructor, the law -/
section
variable {fn fd fl cu ab co cg l1 l2 l3 l4 : Int32} {a1 a2 a3 a4 a5 a6 a7 a8 a9 a10 : Nat → Int32}
theorem wc_i131 {post : St2 → Prop} {mc ms kc ks N D : Nat} (hN2 : 2 ≤ N) (hN : N ≤ 6) (hD2 : 2 ≤ D) (hD3 : D ≤ 3) (H : ∀ u, wc_KK N D u → post u) :
    ∃ n, wX_init_131 post mc ms kc ks (nI N) (nI D) fl cu ab co cg l1 l2 l3 l4 n 0 (fun _ => 0) (fun _ => 0) (fun _ => 0) (fun _ => 0) (fun _ => 0) (fun _ => 0) (fun _ => 0) (fun _ => 0) (fun _ => 0) (fun _ => 0) := by
  have hpD : 2 ^ D ≤ 2 ^ 3 := Nat.pow_le_pow_right (by decide) (by omega)
  refine pk_loop (fun n i t => wX_init_131 post mc ms kc ks (nI N) (nI D) fl cu ab co cg l1 l2 l3 l4 n (nI i) (wc_A (fun _ => 0)) (wc_A (fun _ => 0)) (wc_A t) (wc_A (fun _ => 0)) (fun _ => 0) (fun _ => 0) (fun _ => 0) (fun _ => 0) (fun _ => 0) (fun _ => 0)) (fun i t => ∀ k, t k ≤ 7) 6 0 (fun _ => 0) (by omega) (fun k => Nat.zero_le _)
    (fun n t h => pk_le 6 6 (fun _ => H _ ⟨fun _ => 0, fun _ => 0, t, ⟨hN2, hN, hD2, hD3, fun k => Nat.zero_le _, fun k => Nat.zero_le _, h⟩, fun _ => 0, fun k => Nat.zero_le _, fl, cu, ab, co, cg, l1, l2, l3, l4, _, _, _, _, _, _, rfl⟩) (fun z => absurd z (by omega))) ?_
  intro n i t hi h hw
  exact pk_le 6 i (fun z => absurd z (by omega)) (fun _ => ⟨pk_in i 6 hi, nm_r (wc_put i (2 ^ D - 1) rfl (wc_shlD hD3) (by omega)) (nm_r (nI_1 i) (hw _ (wc_up_le h (by omega))))⟩)
end
theorem wc_init {post : St2 → Prop} {N D : Nat} {u : St1} (hN2 : 2 ≤ N) (hN : N ≤ 6) (hD2 : 2 ≤ D) (hD3 : D ≤ 3) (H : ∀ u, wc_KK N D u → post u) : wpX_init post 10 842 u (nI N) (nI D) := by
  obtain ⟨fn, fd, fl, cu, ab, co, cg, l1, l2, l3, l4⟩ := u
  unfold wpX_init
  refine ⟨by decide, by decide, by decide, by decide, by decide, by decide, by decide, by decide, by decide, by decide, by decide, by decide, by decide, by decide, by decide, by decide, by decide, by decide, by decide, by decide, ?_⟩
  refine br_t (nI_le hN2 (by omega)) ?_
  unfold wX_init_97
  refine br_t (nI_le (b := 6) hN (by decide)) ?_
  unfold wX_init_115
  refine pk_le 3 D (fun z => ?_) (fun z => ?_)
  · obtain rfl : D = 3 := by omega
    exact wc_i131 hN2 hN hD2 hD3 H
  · obtain rfl : D = 2 := by omega
    exact wc_i131 hN2 hN hD2 hD3 H
theorem wc_cellL {post : Int32 → Prop} {L : Nat} {xs : Nat → Int32} {x : Int32} (k : Nat) (hx : x = nI k) (hL : L ≤ 260) (hk : k < 2 ^ 31) (H : ∀ r, post r) : wpL_cell post L xs () x := by
  subst hx
  unfold wpL_cell
  exact pk_le L k (fun _ => H _) (fun z => ⟨pk_in k L z, H _⟩)
theorem wc_l36 {xs : Nat → Int32} {L N D kc ks : Nat} (hL : L ≤ 260) :
    ∀ n k (fn fd fl cu ab co cg l1 l2 l3 l4 : Int32) (a1 a2 a3 a4 a5 a6 a7 a8 a9 a10 : Nat → Int32), k ≤ L + 2 → L + 3 ≤ k + 2 * n → wc_KK N D (fn, fd, fl, cu, ab, co, cg, l1, l2, l3, l4, a1, a2, a3, a4, a5, a6, a7, a8, a9, a10) → wL_law_36 (fun r => r = 1) L xs (nI N) (nI D) kc ks n (nI k) fn fd fl cu ab co cg l1 l2 l3 l4 a1 a2 a3 a4 a5 a6 a7 a8 a9 a10 := by
  intro n
  induction n with
  | zero =>
    intro k fn fd fl cu ab co cg l1 l2 l3 l4 a1 a2 a3 a4 a5 a6 a7 a8 a9 a10 h1 h2
    exact absurd h2 (by omega)
  | succ n ih =>
    intro k fn fd fl cu ab co cg l1 l2 l3 l4 a1 a2 a3 a4 a5 a6 a7 a8 a9 a10 h1 h2 hu
    refine pk_le L k (fun z => ?_) (fun z => wc_cellL k rfl hL (by omega) (fun r96 => wc_cellL (k + 1) (nI_1 k) hL (by omega) (fun r97 => ?_)))
    · obtain ⟨U, B, A, hZ, hK⟩ := hu
      refine wc_holds hZ hK (fun u' _ => ?_)
      obtain ⟨fn, fd, fl, cu, ab, co, cg, l1, l2, l3, l4, a1, a2, a3, a4, a5, a6, a7, a8, a9, a10⟩ := u'
      exact rfl
    · obtain ⟨q, hq, eq⟩ := pk_andE r97 (m := 4095) 12 (by decide)
      refine nm_r eq (wc_turn hq hu (fun u' hu' => ?_))
      obtain ⟨fn, fd, fl, cu, ab, co, cg, l1, l2, l3, l4, a1, a2, a3, a4, a5, a6, a7, a8, a9, a10⟩ := u'
      refine br_c (fun _ => ?_) (fun _ => nm_r (nI_add k 2) (ih (k + 2) _ _ _ _ _ _ _ _ _ _ _ _ _ _ _ _ _ _ _ _ _ (by omega) (by omega) hu'))
      obtain ⟨U, B, A, hZ, hK⟩ := hu'
      refine wc_holds hZ hK (fun u' hK' => ?_)
      obtain ⟨fn, fd, fl, cu, ab, co, cg, l1, l2, l3, l4, a1, a2, a3, a4, a5, a6, a7, a8, a9, a10⟩ := u'
      exact br_f (by decide) (nm_r (nI_add k 2) (ih (k + 2) _ _ _ _ _ _ _ _ _ _ _ _ _ _ _ _ _ _ _ _ _ (by omega) (by omega) ⟨U, B, A, hZ, hK'⟩))
end
section
theorem i_vc (xs : Nat → Int32) (L : Nat) (hL : L ≤ 260) : wpL_law (fun r => r = 1) L xs := by
  unfold wpL_law
  refine wc_cellL 0 rfl hL (by omega) (fun r1 => ⟨by decide, ?_⟩)
  obtain ⟨j, hj, ej⟩ := pk_andE r1 (m := 2147483647) 31 (by decide)
  rw [ej]
  have e5 : nI j - nI j / 5 * 5 = nI (j % 5) := pk_rem (d := 5) hj (by omega) (by omega)
  rw [e5]
  refine nm_r (nI_add 2 (j % 5)) (wc_cellL 1 rfl hL (by omega) (fun r4 => ?_))
  obtain ⟨i, hi, ei⟩ := pk_andE r4 (m := 1) 1 (by decide)
  rw [ei]
  refine nm_r (nI_add 2 i) ⟨10, 842, by decide, by decide, wc_init (by omega) (by omega) (by omega) (by omega) (fun u hu => ?_)⟩
  obtain ⟨fn, fd, fl, cu, ab, co, cg, l1, l2, l3, l4, a1, a2, a3, a4, a5, a6, a7, a8, a9, a10⟩ := u
  exact ⟨L + 1, wc_l36 hL (L + 1) 2 _ _ _ _ _ _ _ _ _ _ _ _ _ _ _ _ _ _ _ _ _ (by omega) (by omega) hu⟩
end
