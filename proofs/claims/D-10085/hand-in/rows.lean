section
/-- a finite sum of naturals -/
def wq_S (f : Nat → Nat) : Nat → Nat
  | 0 => 0
  | n + 1 => wq_S f n + f n
theorem wq_S1 (f : Nat → Nat) (n : Nat) : wq_S f (n + 1) = wq_S f n + f n := rfl
theorem wq_S_congr {f g : Nat → Nat} {n : Nat} (h : ∀ j, j < n → f j = g j) : wq_S f n = wq_S g n := by
  induction n with
  | zero => rfl
  | succ n ih => rw [wq_S1, wq_S1, ih (fun j hj => h j (by omega)), h n (by omega)]
theorem wq_S_le {f g : Nat → Nat} {n : Nat} (h : ∀ j, j < n → f j ≤ g j) : wq_S f n ≤ wq_S g n := by
  induction n with
  | zero => exact Nat.le_refl _
  | succ n ih =>
    rw [wq_S1, wq_S1]
    exact Nat.add_le_add (ih (fun j hj => h j (by omega))) (h n (by omega))
theorem wq_S_put {f g : Nat → Nat} {k n : Nat} (hk : k < n) (h : ∀ j, j ≠ k → g j = f j) : wq_S g n + f k = wq_S f n + g k := by
  induction n with
  | zero => omega
  | succ n ih =>
    rw [wq_S1, wq_S1]
    by_cases e : k = n
    · rw [e, wq_S_congr (f := g) (g := f) (n := n) (fun j hj => h j (by omega))]
      omega
    · have t := ih (by omega)
      rw [h n (by omega)]
      omega
theorem wq_S_get {f : Nat → Nat} {k n : Nat} (hk : k < n) : f k ≤ wq_S f n := by
  induction n with
  | zero => omega
  | succ n ih =>
    rw [wq_S1]
    by_cases e : k = n
    · rw [e]
      omega
    · have t := ih (by omega)
      omega
theorem wq_S_two {f : Nat → Nat} {j k n : Nat} (hj : j < k) (hk : k < n) : f j + f k ≤ wq_S f n := by
  induction n with
  | zero => omega
  | succ n ih =>
    rw [wq_S1]
    by_cases e : k = n
    · have t := wq_S_get (f := f) (k := j) (n := n) (by omega)
      rw [e]
      omega
    · have t := ih (by omega)
      omega
theorem wq_S_add (f : Nat → Nat) (m n : Nat) : wq_S f (m + n) = wq_S f m + wq_S (fun s => f (m + s)) n := by
  induction n with
  | zero => rfl
  | succ n ih =>
    rw [← Nat.add_assoc, wq_S1, wq_S1, ih]
    omega
theorem wq_S_zero {f : Nat → Nat} {n : Nat} (h : ∀ j, j < n → f j = 0) : wq_S f n = 0 := by
  induction n with
  | zero => rfl
  | succ n ih => rw [wq_S1, ih (fun j hj => h j (by omega)), h n (by omega)]
/-- the sum of a row of eight -/
def wq_R (h : Nat → Nat) (v : Nat) : Nat := wq_S (fun s => h (v * 8 + s)) 8
theorem wq_row (h : Nat → Nat) (v : Nat) : wq_S h ((v + 1) * 8) = wq_S h (v * 8) + wq_R h v := by
  rw [show (v + 1) * 8 = v * 8 + 8 by omega, wq_S_add]
  rfl
theorem wq_rows (h : Nat → Nat) (v : Nat) : wq_S h (v * 8) = wq_S (wq_R h) v := by
  induction v with
  | zero => rfl
  | succ v ih => rw [wq_row, wq_S1, ih]
/-- one place of a picture written -/
def wq_u (f : Nat → Nat) (k x : Nat) : Nat → Nat := fun j => if j = k then x else f j
theorem wq_us {f : Nat → Nat} {k x : Nat} : wq_u f k x k = x := if_pos rfl
theorem wq_un {f : Nat → Nat} {k j x : Nat} (h : j ≠ k) : wq_u f k x j = f j := if_neg h
theorem wq_Su {f : Nat → Nat} {k n x : Nat} (hk : k < n) : wq_S (wq_u f k x) n + f k = wq_S f n + x := by
  have t := wq_S_put (f := f) (g := wq_u f k x) hk (fun j hj => wq_un hj)
  rw [wq_us] at t
  exact t
/-- an array of ints holds these naturals -/
def wq_A (a : Nat → Int32) (h : Nat → Nat) (n : Nat) : Prop := ∀ j, j < n → a j = nI (h j)
theorem wq_A_put {a : Nat → Int32} {h : Nat → Nat} {n k x : Nat} {y : Int32} (hA : wq_A a h n) (hy : y = nI x) : wq_A (upd a k y) (wq_u h k x) n := by
  intro j hj
  by_cases e : j = k
  · rw [e, pk_us, wq_us, hy]
  · rw [pk_un e, wq_un e]
    exact hA j hj
/-- a bit of a natural -/
def wq_b (x w : Nat) : Nat := x / 2 ^ w % 2
def wq_c (x : Nat) : Nat := wq_S (wq_b x) 8
theorem wq_b2 (x w : Nat) : wq_b x w < 2 := Nat.mod_lt _ (by omega)
theorem wq_sh : ∀ w, w < 32 → ((nI w &&& 31).toBitVec.smod 32).toNat = w := by decide +kernel
theorem wq_bit {x w : Nat} (hx : x < 2 ^ 31) (hw : w < 32) : (nI x >>> (nI w &&& 31)) &&& 1 = nI (wq_b x w) := by
  rw [pk_shrN hx _ w (wq_sh w hw)]
  exact pk_andN (Nat.lt_of_le_of_lt (Nat.div_le_self _ _) (by omega)) 1 (by decide)
theorem wq_x : ∀ x, x < 256 → ∀ b, b < 8 → (nI x ^^^ ((1 : Int32) <<< (nI b &&& 31))).toInt16.toInt32 = nI (x ^^^ 2 ^ b) ∧ x ^^^ 2 ^ b < 256 := by decide +kernel
theorem wq_xc : ∀ x, x < 256 → ∀ b, b < 8 → wq_c (x ^^^ 2 ^ b) + wq_b x b = wq_c x + (1 - wq_b x b) := by decide +kernel
theorem wq_xb : ∀ x, x < 256 → ∀ b, b < 8 → ∀ w, w < 8 → wq_b (x ^^^ 2 ^ b) w = if w = b then 1 - wq_b x w else wq_b x w := by decide +kernel
theorem wq_o : ∀ i, i < 8 → ∀ r, r < 256 → r < 2 ^ i → nI r ||| ((1 : Int32) <<< (nI i &&& 31)) = nI (r + 2 ^ i) ∧ r + 2 ^ i < 2 ^ (i + 1) ∧ wq_b (r + 2 ^ i) i = 1 ∧ wq_b r i = 0 ∧ ∀ w, w < i → wq_b (r + 2 ^ i) w = wq_b r w := by decide +kernel
theorem wq_o0 : ∀ r, r < 256 → nI r ||| 0 = nI r := by decide +kernel
theorem wq_p8 : ∀ i, i ≤ 8 → 2 ^ i ≤ 256 := by decide
/-- the cells that a walk begins with: on the diagonal the bits of the starts -/
def wq_h0 (t : Nat) (i : Nat) : Nat := if i / 8 = i % 8 then wq_b t (i % 8) else 0
theorem wq_h0s (t : Nat) : wq_S (wq_h0 t) 64 = wq_S (wq_b t) 8 := by
  simp [wq_S, wq_h0]
theorem wq_pow : ∀ k, k ≤ 6 → 8 * 21 ^ k < 2 ^ 31 := by decide
theorem wq_S1b {f : Nat → Nat} {n : Nat} (h : ∀ j, j < n → f j < 2) : wq_S f n ≤ n := by
  induction n with
  | zero => exact Nat.le_refl _
  | succ n ih =>
    have t := ih (fun j hj => h j (by omega))
    have t2 := h n (by omega)
    rw [wq_S1]
    omega
end
section
theorem wq_ix (w i : Nat) : nI w * 8 + nI i = nI (w * 8 + i) := by
  rw [show (8 : Int32) = nI 8 from rfl, pk_mul, nI_add]
theorem wq_cl {w i : Nat} (h : w * 8 + i < 64) : (nI w * 8 + nI i).toNatClampNeg = w * 8 + i := by
  rw [wq_ix, nI_clamp (by omega)]
theorem wq_d8 {i : Nat} (h : i < 64) : nI i / 8 = nI (i / 8) := pk_div (d := 8) (by omega) (by omega) (by omega)
theorem wq_r8 {i : Nat} (h : i < 64) : nI i - nI i / 8 * 8 = nI (i % 8) := pk_rem (d := 8) (by omega) (by omega) (by omega)
section
variable {ec sz st kn : Int32} {a1 a2 a3 a4 a5 a6 a7 a8 : Nat → Int32}
theorem wq_total {post : Int32 → Prop} {h : Nat → Nat} (hA : wq_A a6 h 64) (H : post (nI (wq_S h 64))) : wpX_total post (ec, sz, st, kn, a1, a2, a3, a4, a5, a6, a7, a8) := by
  unfold wpX_total
  refine pk_loop (σ := Unit) (fun n i _ => wX_total_4 post ec sz st kn a1 a2 a3 a4 a5 a6 a7 a8 n (nI (wq_S h i)) (nI i)) (fun _ _ => True) 64 0 () (by omega) trivial ?_ ?_
  · intro n _ _
    exact pk_le 64 64 (fun _ => H) (fun z => absurd z (by omega))
  · intro n i _ hi _ hw
    refine pk_le 64 i (fun z => absurd z (by omega)) (fun _ => ⟨pk_in i 64 hi, nm_r (e' := nI (wq_S h (i + 1))) ?_ (nm_r (nI_1 i) (hw () trivial))⟩)
    rw [nI_clamp (by omega), hA i hi, nI_add]
    rfl
theorem wq_carry {post : St1 → Prop} {g h : Nat → Nat} {v w : Nat} (hv : v < 8) (hw8 : w < 8) (hg : wq_A a6 g 64) (hh : wq_A a7 h 64)
    (H : ∀ a g', wq_A a g' 64 → wq_S g' 64 = wq_S g 64 + wq_R h v → post (ec, sz, st, kn, a1, a2, a3, a4, a5, a, a7, a8)) :
    wpX_carry post (ec, sz, st, kn, a1, a2, a3, a4, a5, a6, a7, a8) (nI v) (nI w) := by
  unfold wpX_carry
  refine pk_loop (fun n i s => wX_carry_2 post (nI v) (nI w) ec sz st kn n (nI i) a1 a2 a3 a4 a5 s a7 a8)
    (fun i s => ∃ g', wq_A s g' 64 ∧ wq_S g' 64 = wq_S g 64 + wq_S (fun s => h (v * 8 + s)) i) 8 0 a6 (by omega) ⟨g, hg, rfl⟩ ?_ ?_
  · intro n s hI
    obtain ⟨g', h1, h2⟩ := hI
    exact pk_le 8 8 (fun _ => H s g' h1 h2) (fun z => absurd z (by omega))
  · intro n i s hi hI hw
    obtain ⟨g', h1, h2⟩ := hI
    refine pk_le 8 i (fun z => absurd z (by omega)) (fun _ => ⟨pk_in (w * 8 + i) 64 (by omega) (wq_ix w i), pk_in (v * 8 + i) 64 (by omega) (wq_ix v i), pk_in (w * 8 + i) 64 (by omega) (wq_ix w i), ?_⟩)
    rw [wq_cl (w := w) (i := i) (by omega), wq_cl (w := v) (i := i) (by omega)]
    refine nm_e (nm_r (nI_1 i) (hw _ ⟨wq_u g' (w * 8 + i) (g' (w * 8 + i) + h (v * 8 + i)), wq_A_put h1 ?_, ?_⟩))
    · rw [h1 _ (by omega), hh _ (by omega), nI_add]
    · have t := wq_Su (f := g') (k := w * 8 + i) (n := 64) (x := g' (w * 8 + i) + h (v * 8 + i)) (by omega)
      rw [wq_S1 (fun s => h (v * 8 + s)) i]
      omega
theorem wq_filter {post : St1 → Prop} {h : Nat → Nat} {x1 x2 : Int32} (hh : wq_A a6 h 64)
    (H : ∀ a g', wq_A a g' 64 → wq_S g' 64 ≤ wq_S h 64 → post (ec, sz, st, kn, a1, a2, a3, a4, a5, a, a7, a8)) :
    wpX_filter post (ec, sz, st, kn, a1, a2, a3, a4, a5, a6, a7, a8) x1 x2 := by
  unfold wpX_filter
  refine pk_loop (fun n i s => wX_filter_2 post x1 x2 ec sz st kn n (nI i) a1 a2 a3 a4 a5 s a7 a8)
    (fun _ s => ∃ g', wq_A s g' 64 ∧ wq_S g' 64 ≤ wq_S h 64) 64 0 a6 (by omega) ⟨h, hh, Nat.le_refl _⟩ ?_ ?_
  · intro n s hI
    obtain ⟨g', h1, h2⟩ := hI
    exact pk_le 64 64 (fun _ => H s g' h1 h2) (fun z => absurd z (by omega))
  · intro n i s hi hI hw
    obtain ⟨g', h1, h2⟩ := hI
    have K : ∀ z, wX_filter_75 post (wX_filter_2 post x1 x2 ec sz st kn n) x1 x2 (nI i) z ec sz st kn a1 a2 a3 a4 a5 s a7 a8 := by
      intro z
      refine br_c (fun _ => ⟨pk_in i 64 hi, ?_⟩) (fun _ => nm_r (nI_1 i) (hw s ⟨g', h1, h2⟩))
      rw [nI_clamp (by omega)]
      refine nm_e (nm_r (nI_1 i) (hw _ ⟨wq_u g' i 0, wq_A_put h1 rfl, ?_⟩))
      have t := wq_Su (f := g') (k := i) (n := 64) (x := 0) hi
      omega
    have K67 : ∀ z z', wX_filter_67 post (wX_filter_2 post x1 x2 ec sz st kn n) x1 x2 (nI i) z z' ec sz st kn a1 a2 a3 a4 a5 s a7 a8 :=
      fun z z' => br_c (fun _ => K 1) (fun _ => K 0)
    have K56 : ∀ z, wX_filter_56 post (wX_filter_2 post x1 x2 ec sz st kn n) x1 x2 (nI i) z ec sz st kn a1 a2 a3 a4 a5 s a7 a8 :=
      fun z => br_c (fun _ => K67 1 z) (fun _ => K67 0 z)
    refine pk_le 64 i (fun z => absurd z (by omega)) (fun _ => ⟨by decide, nm_r (wq_d8 hi) ⟨by decide, nm_e ?_⟩⟩)
    exact br_c (fun _ => ⟨pk_in (i / 8) 8 (by omega), br_c (fun _ => K 0) (fun _ => K 1)⟩) (fun _ => br_c (fun _ => K56 1) (fun _ => K56 0))
end
/-- the rows ahead of v hold one walker at most -/
def wq_K0 (v : Nat) (s : Nat → Int32) : Prop := ∃ g, wq_A s g (v * 8) ∧ ∀ u, u < v → wq_R g u ≤ 1
def wq_K1 (v i f : Nat) (s : Nat → Int32) : Prop := f ≤ 1 ∧ ∃ g, wq_A s g (v * 8 + i) ∧ (∀ u, u < v → wq_R g u ≤ 1) ∧ wq_S (fun s => g (v * 8 + s)) i ≤ f
theorem wq_K1_put {v i f f' y : Nat} {s : Nat → Int32} {Y : Int32} (hk : wq_K1 v i f s) (hY : Y = nI y) (hf : f + y ≤ f') (hf' : f' ≤ 1) : wq_K1 v (i + 1) f' (upd s (v * 8 + i) Y) := by
  obtain ⟨_, g, h1, h2, h3⟩ := hk
  refine ⟨hf', wq_u g (v * 8 + i) y, ?_, ?_, ?_⟩
  · intro j hj
    by_cases e : j = v * 8 + i
    · rw [e, pk_us, wq_us, hY]
    · rw [pk_un e, wq_un e]
      exact h1 j (by omega)
  · intro u hu
    have t : wq_R (wq_u g (v * 8 + i) y) u = wq_R g u := wq_S_congr (fun j hj => wq_un (by omega))
    rw [t]
    exact h2 u hu
  · have t : wq_S (fun s => wq_u g (v * 8 + i) y (v * 8 + s)) i = wq_S (fun s => g (v * 8 + s)) i := wq_S_congr (fun j hj => wq_un (by omega))
    rw [wq_S1, t, wq_us]
    omega
theorem wq_K1_end {v f : Nat} {s : Nat → Int32} (hk : wq_K1 v 8 f s) : wq_K0 (v + 1) s := by
  obtain ⟨hf, g, h1, h2, h3⟩ := hk
  refine ⟨g, fun j hj => h1 j (by omega), fun u hu => ?_⟩
  by_cases e : u = v
  · rw [e]
    exact Nat.le_trans h3 hf
  · exact h2 u (by omega)
theorem wq_K0_1 {v : Nat} {s : Nat → Int32} (hk : wq_K0 v s) : wq_K1 v 0 0 s := by
  obtain ⟨g, h1, h2⟩ := hk
  exact ⟨by omega, g, h1, h2, Nat.le_refl _⟩
section
variable {ec sz st kn : Int32} {a1 a2 a3 a4 a5 a6 a7 a8 : Nat → Int32}
theorem wq_keepOne {post : St1 → Prop}
    (H : ∀ a g', wq_A a g' 64 → (∀ u, u < 8 → wq_R g' u ≤ 1) → post (ec, sz, st, kn, a1, a2, a3, a4, a5, a, a7, a8)) :
    wpX_keepOne post (ec, sz, st, kn, a1, a2, a3, a4, a5, a6, a7, a8) := by
  unfold wpX_keepOne
  refine pk_loop (fun n i s => wX_keepOne_2 post ec sz st kn n (nI i) a1 a2 a3 a4 a5 s a7 a8)
    (fun v s => wq_K0 v s) 8 0 a6 (by omega) ⟨fun _ => 0, fun j hj => absurd hj (by omega), fun u hu => absurd hu (by omega)⟩ ?_ ?_
  · intro n s hI
    obtain ⟨g', h1, h2⟩ := hI
    exact pk_le 8 8 (fun _ => H s g' h1 h2) (fun z => absurd z (by omega))
  · intro n v s0 hv hI hout
    refine pk_le 8 v (fun z => absurd z (by omega)) (fun _ => ?_)
    refine pk_loop (σ := Nat × (Nat → Int32)) (fun m i p => wX_keepOne_12 post (wX_keepOne_2 post ec sz st kn n) (nI v) ec sz st kn m (nI p.1) (nI i) a1 a2 a3 a4 a5 p.2 a7 a8)
      (fun i p => wq_K1 v i p.1 p.2) 8 0 (0, s0) (by omega) (wq_K0_1 hI) ?_ ?_
    · intro m p hp
      exact pk_le 8 8 (fun _ => nm_r (nI_1 v) (hout p.2 (wq_K1_end hp))) (fun z => absurd z (by omega))
    · intro m i p hi hp hw
      obtain ⟨f, s⟩ := p
      have hf : f ≤ 1 := hp.1
      have K0 : wX_keepOne_40 post (wX_keepOne_2 post ec sz st kn n) (wX_keepOne_12 post (wX_keepOne_2 post ec sz st kn n) (nI v) ec sz st kn m) (nI v) (nI f) (nI i) ec sz st kn a1 a2 a3 a4 a5 s a7 a8 := by
        unfold wX_keepOne_40 wX_keepOne_41
        refine br_t rfl ⟨pk_in (v * 8 + i) 64 (by omega) (wq_ix v i), ?_⟩
        rw [wq_cl (w := v) (i := i) (by omega)]
        exact nm_e (nm_r (wq_o0 f (by omega)) (nm_r (nI_1 i) (hw (f, _) (wq_K1_put hp (y := 0) rfl (by omega) hf))))
      refine pk_le 8 i (fun z => absurd z (by omega)) (fun _ => ?_)
      refine pk_eq f 0 (fun e => ⟨pk_in (v * 8 + i) 64 (by omega) (wq_ix v i), br_c (fun _ => K0) (fun _ => ?_)⟩) (fun _ => K0)
      subst e
      unfold wX_keepOne_41
      refine br_f (by decide) ⟨pk_in (v * 8 + i) 64 (by omega) (wq_ix v i), ?_⟩
      rw [wq_cl (w := v) (i := i) (by omega)]
      exact nm_e (nm_r (e' := nI 1) (show nI 0 ||| 1 = nI 1 by decide) (nm_r (nI_1 i) (hw (1, _) (wq_K1_put hp (y := 1) rfl (by omega) (by omega)))))
end
theorem wq_ones {g : Nat → Nat} (h : ∀ u, u < 8 → wq_R g u ≤ 1) : wq_S g 64 ≤ 8 := by
  have t := wq_rows g 8
  have t2 := wq_S1b (f := wq_R g) (n := 8) (fun j hj => Nat.lt_succ_of_le (h j hj))
  have t3 : wq_S g 64 = wq_S (wq_R g) 8 := t
  omega
end
section
theorem wq_m1 (T R F B : Nat) : T + R * (F + B) + R = T + R * (F + (B + 1)) := by
  rw [show F + (B + 1) = (F + B) + 1 by omega, Nat.mul_succ, Nat.add_assoc]
theorem wq_m2 (T R F B : Nat) : T + R * (F + B) + R = T + R * ((F + 1) + B) := by
  rw [show (F + 1) + B = (F + B) + 1 by omega, Nat.mul_succ, Nat.add_assoc]
section
variable {ec sz st kn : Int32} {a1 a2 a3 a4 a5 a6 a7 a8 : Nat → Int32}
theorem wq_sp52 {post : St1 → Prop} {g h : Nat → Nat} {v f b : Nat} (hv : v < 8) (hf : f < 256) (hb : b < 256) (hg : wq_A a6 g 64) (hh : wq_A a7 h 64)
    (H : ∀ a g', wq_A a g' 64 → wq_S g' 64 = wq_S g 64 + wq_R h v * (wq_c f + wq_c b) → post (ec, sz, st, kn, a1, a2, a3, a4, a5, a, a7, a8)) :
    ∃ n, wX_spread_52 post (nI v) (nI f) (nI b) n 0 ec sz st kn a1 a2 a3 a4 a5 a6 a7 a8 := by
  refine pk_loop (fun n i s => wX_spread_52 post (nI v) (nI f) (nI b) n (nI i) ec sz st kn a1 a2 a3 a4 a5 s a7 a8)
    (fun i s => ∃ g', wq_A s g' 64 ∧ wq_S g' 64 = wq_S g 64 + wq_R h v * (wq_S (wq_b f) i + wq_S (wq_b b) i)) 8 0 a6 (by omega) ⟨g, hg, rfl⟩ ?_ ?_
  · intro n s hI
    obtain ⟨g', h1, h2⟩ := hI
    exact pk_le 8 8 (fun _ => H s g' h1 h2) (fun z => absurd z (by omega))
  · intro n i s hi hI hw
    obtain ⟨g', h1, h2⟩ := hI
    have bf := wq_b2 f i
    have bb := wq_b2 b i
    have K : ∀ s g', wq_A s g' 64 → wq_S g' 64 = wq_S g 64 + wq_R h v * (wq_S (wq_b f) (i + 1) + wq_S (wq_b b) i) →
        wX_spread_76 post (wX_spread_52 post (nI v) (nI f) (nI b) n) (nI v) (nI f) (nI b) (nI i) ec sz st kn a1 a2 a3 a4 a5 s a7 a8 := by
      intro s g' h1 h2
      refine pk_eq (wq_b b i) 0 (fun e => nm_r (nI_1 i) (hw s ⟨g', h1, ?_⟩)) (fun e => ?_) (wq_bit (by omega) (by omega))
      · rw [wq_S1 (wq_b b), e]
        exact h2
      · refine wq_carry hv hi h1 hh (fun a g'' h3 h4 => nm_r (nI_1 i) (hw a ⟨g'', h3, ?_⟩))
        rw [h4, h2, wq_S1 (wq_b b), show wq_b b i = 1 by omega]
        exact wq_m1 _ _ _ _
    refine pk_le 8 i (fun z => absurd z (by omega)) (fun _ => ?_)
    refine pk_eq (wq_b f i) 0 (fun e => K s g' h1 ?_) (fun e => ?_) (wq_bit (by omega) (by omega))
    · rw [wq_S1 (wq_b f), e]
      exact h2
    · refine wq_carry hv hi h1 hh (fun a g'' h3 h4 => K a g'' h3 ?_)
      rw [h4, h2, wq_S1 (wq_b f), show wq_b f i = 1 by omega]
      exact wq_m2 _ _ _ _
theorem wq_c0 (x : Nat) : wq_c 0 ≤ x := Nat.zero_le x
theorem wq_spread {post : St1 → Prop} {g h o q : Nat → Nat} {v l : Nat} {k : Int32} (hv : v < 8) (hl : l < 2)
    (ho : ∀ j, j < 16 → a2 j = nI (o j) ∧ o j < 256) (hq : ∀ j, j < 16 → a3 j = nI (q j) ∧ q j < 256) (hg : wq_A a6 g 64) (hh : wq_A a7 h 64)
    (H : ∀ a g', wq_A a g' 64 → wq_S g' 64 ≤ wq_S g 64 + wq_R h v * (wq_c (o (l * 8 + v)) + wq_c (q (l * 8 + v))) → post (ec, sz, st, kn, a1, a2, a3, a4, a5, a, a7, a8)) :
    wpX_spread post (ec, sz, st, kn, a1, a2, a3, a4, a5, a6, a7, a8) k (nI v) (nI l) := by
  have hj : l * 8 + v < 16 := by omega
  have M : ∀ f b, f < 256 → b < 256 → wq_c f ≤ wq_c (o (l * 8 + v)) → wq_c b ≤ wq_c (q (l * 8 + v)) →
      ∃ n, wX_spread_52 post (nI v) (nI f) (nI b) n 0 ec sz st kn a1 a2 a3 a4 a5 a6 a7 a8 := by
    intro f b hf hb cf cb
    refine wq_sp52 hv hf hb hg hh (fun a g' A E => H a g' A ?_)
    rw [E]
    exact Nat.add_le_add_left (Nat.mul_le_mul_left _ (Nat.add_le_add cf cb)) _
  have M32 : ∀ f, f < 256 → wq_c f ≤ wq_c (o (l * 8 + v)) → wX_spread_32 post (nI v) (nI l) (nI f) ec sz st kn a1 a2 a3 a4 a5 a6 a7 a8 := by
    intro f hf cf
    refine ⟨pk_in (l * 8 + v) 16 hj (wq_ix l v), nm_r (e' := nI (q (l * 8 + v))) ?_ (M f (q (l * 8 + v)) hf (hq _ hj).2 cf (Nat.le_refl _))⟩
    rw [wq_cl (w := l) (i := v) (by omega)]
    exact (hq _ hj).1
  have M20 : ∀ f, f < 256 → wq_c f ≤ wq_c (o (l * 8 + v)) → wX_spread_20 post k (nI v) (nI l) (nI f) ec sz st kn a1 a2 a3 a4 a5 a6 a7 a8 :=
    fun f hf cf => br_c (fun _ => M32 f hf cf) (fun _ => br_c (fun _ => M32 f hf cf) (fun _ => M f 0 hf (by omega) cf (wq_c0 _)))
  unfold wpX_spread
  refine br_c (fun _ => M20 0 (by omega) (wq_c0 _)) (fun _ => ⟨pk_in (l * 8 + v) 16 hj (wq_ix l v), ?_⟩)
  rw [wq_cl (w := l) (i := v) (by omega), (ho _ hj).1]
  exact M20 _ (ho _ hj).2 (Nat.le_refl _)
theorem wq_moves {post : Int32 → Prop} {v : Nat} {lab : Int32} (hv : v < 8) (H0 : post 0) (H1 : post 1) :
    wpX_moves post (ec, sz, st, kn, a1, a2, a3, a4, a5, a6, a7, a8) (nI v) lab := by
  have M19 : ∀ z, wX_moves_19 post (nI v) lab z ec sz st kn a1 a2 a3 a4 a5 a6 a7 a8 :=
    fun z => br_c (fun _ => br_c (fun _ => H0) (fun _ => ⟨pk_in (8 + v) 16 (by omega) (nI_add 8 v), br_c (fun _ => H0) (fun _ => H1)⟩)) (fun _ => H1)
  have M18 : wX_moves_18 post (nI v) lab ec sz st kn a1 a2 a3 a4 a5 a6 a7 a8 := M19 0
  unfold wpX_moves
  exact br_c (fun _ => M18) (fun _ => ⟨pk_in v 16 (by omega), br_c (fun _ => M18) (fun _ => M19 1)⟩)
theorem wq_m3 {T P R D : Nat} (h : T ≤ 21 * P + R * D) (hD : D ≤ 20) : T + R ≤ 21 * (P + R) := by
  have t : R * D ≤ R * 20 := Nat.mul_le_mul_left R hD
  omega
theorem wq_m4 {T T' P R D E : Nat} (h : T ≤ 21 * P + R * D) (h2 : T' ≤ T + R * E) : T' ≤ 21 * P + R * (D + E) := by
  rw [Nat.mul_add]
  omega
theorem wq_mv35 {post : St1 → Prop} {h o q : Nat → Nat} {k lab : Int32}
    (ho : ∀ j, j < 16 → a2 j = nI (o j) ∧ o j < 256) (hq : ∀ j, j < 16 → a3 j = nI (q j) ∧ q j < 256)
    (so : wq_S (fun j => wq_c (o j)) 16 ≤ 10) (sq : wq_S (fun j => wq_c (q j)) 16 ≤ 10)
    (hg : wq_A a6 (fun _ => 0) 64) (hh : wq_A a7 h 64)
    (H : ∀ a g', wq_A a g' 64 → wq_S g' 64 ≤ 21 * wq_S h 64 → post (ec, sz, st, kn, a1, a2, a3, a4, a5, a, a7, a8)) :
    ∃ n, wX_move_35 post k lab n 0 ec sz st kn a1 a2 a3 a4 a5 a6 a7 a8 := by
  refine pk_loop (fun n i s => wX_move_35 post k lab n (nI i) ec sz st kn a1 a2 a3 a4 a5 s a7 a8)
    (fun v s => ∃ g', wq_A s g' 64 ∧ wq_S g' 64 ≤ 21 * wq_S h (v * 8)) 8 0 a6 (by omega) ⟨fun _ => 0, hg, Nat.le_of_eq (wq_S_zero (fun j hj => rfl))⟩ ?_ ?_
  · intro n s hI
    obtain ⟨g', h1, h2⟩ := hI
    exact pk_le 8 8 (fun _ => H s g' h1 h2) (fun z => absurd z (by omega))
  · intro n v s0 hv hI hout
    obtain ⟨g0, hg1, hg2⟩ := hI
    have hD : wq_S (fun l => wq_c (o (l * 8 + v)) + wq_c (q (l * 8 + v))) 2 ≤ 20 := by
      have t1 := wq_S_two (f := fun j => wq_c (o j)) (j := v) (k := 8 + v) (n := 16) (by omega) (by omega)
      have t2 := wq_S_two (f := fun j => wq_c (q j)) (j := v) (k := 8 + v) (n := 16) (by omega) (by omega)
      have t3 : wq_S (fun l => wq_c (o (l * 8 + v)) + wq_c (q (l * 8 + v))) 2 = 0 + (wq_c (o (0 * 8 + v)) + wq_c (q (0 * 8 + v))) + (wq_c (o (1 * 8 + v)) + wq_c (q (1 * 8 + v))) := rfl
      rw [t3, show 0 * 8 + v = v by omega, show 1 * 8 + v = 8 + v by omega]
      omega
    refine pk_le 8 v (fun z => absurd z (by omega)) (fun _ => ?_)
    refine pk_loop (fun m l s => wX_move_44 post (wX_move_35 post k lab n) k lab (nI v) m (nI l) ec sz st kn a1 a2 a3 a4 a5 s a7 a8)
      (fun l s => ∃ g', wq_A s g' 64 ∧ wq_S g' 64 ≤ 21 * wq_S h (v * 8) + wq_R h v * wq_S (fun l => wq_c (o (l * 8 + v)) + wq_c (q (l * 8 + v))) l) 2 0 s0 (by omega) ⟨g0, hg1, Nat.le_trans hg2 (Nat.le_add_right _ _)⟩ ?_ ?_
    · intro m s hI
      obtain ⟨g', h1, h2⟩ := hI
      have hb := wq_m3 h2 hD
      rw [← wq_row] at hb
      refine pk_le 2 2 (fun _ => ?_) (fun z => absurd z (by omega))
      have N : ∀ x, x = nI v + 1 → wX_move_35 post k lab n x ec sz st kn a1 a2 a3 a4 a5 s a7 a8 :=
        nm_r (nI_1 v) (hout s ⟨g', h1, by omega⟩)
      refine br_c (fun _ => ?_) (fun _ => N)
      refine wq_moves hv (br_t rfl ?_) (br_f (by decide) N)
      refine wq_carry hv hv h1 hh (fun a g'' h3 h4 => nm_r (nI_1 v) (hout a ⟨g'', h3, ?_⟩))
      rw [h4]
      exact hb
    · intro m l s hl hI hw
      obtain ⟨g', h1, h2⟩ := hI
      have K : wX_move_61 post (wX_move_35 post k lab n) (wX_move_44 post (wX_move_35 post k lab n) k lab (nI v) m) k lab (nI v) (nI l) ec sz st kn a1 a2 a3 a4 a5 s a7 a8 := by
        unfold wX_move_61
        exact wq_spread hv hl ho hq h1 hh (fun a g'' h3 h4 => nm_r (nI_1 l) (hw a ⟨g'', h3, wq_m4 h2 h4⟩))
      refine pk_le 2 l (fun z => absurd z (by omega)) (fun _ => br_c (fun _ => K) (fun _ => br_c (fun _ => K) (fun _ => nm_r (nI_1 l) (hw s ⟨g', h1, ?_⟩))))
      exact wq_m4 h2 (Nat.le_add_right _ _)
theorem wq_move {post : St1 → Prop} {h o q : Nat → Nat} {k lab : Int32}
    (ho : ∀ j, j < 16 → a2 j = nI (o j) ∧ o j < 256) (hq : ∀ j, j < 16 → a3 j = nI (q j) ∧ q j < 256)
    (so : wq_S (fun j => wq_c (o j)) 16 ≤ 10) (sq : wq_S (fun j => wq_c (q j)) 16 ≤ 10)
    (hh : wq_A a6 h 64)
    (H : ∀ a b g', wq_A a g' 64 → wq_S g' 64 ≤ 21 * wq_S h 64 → post (ec, sz, st, kn, a1, a2, a3, a4, a5, a, b, a8)) :
    wpX_move post (ec, sz, st, kn, a1, a2, a3, a4, a5, a6, a7, a8) k lab := by
  unfold wpX_move
  refine pk_loop (σ := (Nat → Int32) × (Nat → Int32)) (fun n i p => wX_move_2 post k lab ec sz st kn n (nI i) a1 a2 a3 a4 a5 p.1 p.2 a8)
    (fun i p => (∀ j, j < i → p.1 j = nI 0 ∧ p.2 j = nI (h j)) ∧ ∀ j, i ≤ j → j < 64 → p.1 j = nI (h j)) 64 0 (a6, a7) (by omega) ⟨fun j hj => absurd hj (by omega), fun j _ hj => hh j hj⟩ ?_ ?_
  · intro n p hI
    obtain ⟨s, b⟩ := p
    refine pk_le 64 64 (fun _ => ?_) (fun z => absurd z (by omega))
    exact wq_mv35 ho hq so sq (fun j hj => (hI.1 j hj).1) (fun j hj => (hI.1 j hj).2) (fun a g' A B => H a b g' A B)
  · intro n i p hi hI hw
    obtain ⟨s, b⟩ := p
    refine pk_le 64 i (fun z => absurd z (by omega)) (fun _ => ⟨pk_in i 64 hi, pk_in i 64 hi, ?_⟩)
    rw [nI_clamp (by omega)]
    refine nm_e ⟨pk_in i 64 hi, nm_e (nm_r (nI_1 i) (hw (upd s i 0, upd b i (s i)) ⟨fun j hj => ?_, fun j h1 h2 => ?_⟩))⟩
    · by_cases e : j = i
      · rw [e]
        refine ⟨pk_us, ?_⟩
        show upd b i (s i) i = _
        rw [pk_us]
        exact hI.2 i (Nat.le_refl _) hi
      · show upd s i 0 j = _ ∧ upd b i (s i) j = _
        rw [pk_un e, pk_un e]
        exact hI.1 j (by omega)
    · show upd s i 0 j = _
      rw [pk_un (by omega)]
      exact hI.2 j (by omega) h2
end
end
section
/-- the graph, the size and the starts of an object -/
def wq_G (c n t : Nat) (a2 a3 : Nat → Int32) : Prop :=
  c ≤ 10 ∧ n ≤ 6 ∧ t < 256 ∧ ∃ o q : Nat → Nat, (∀ j, j < 16 → a2 j = nI (o j) ∧ o j < 256) ∧ (∀ j, j < 16 → a3 j = nI (q j) ∧ q j < 256) ∧
    (∀ l a b, l < 2 → a < 8 → b < 8 → wq_b (o (l * 8 + a)) b = wq_b (q (l * 8 + b)) a) ∧ wq_S (fun j => wq_c (o j)) 16 = c ∧ wq_S (fun j => wq_c (q j)) 16 = c
/-- what a walk leaves: the cells hold h -/
def wq_H (h : Nat → Nat) (n t : Nat) (a4 a6 a8 : Nat → Int32) : Prop :=
  wq_A a6 h 64 ∧ wq_S h 64 < 2 ^ 31 ∧ a8 n = nI (wq_S h 64) ∧ a8 0 = nI (wq_S (wq_b t) 8) ∧ (0 < n → a4 (n - 1) = 7 → ∀ u, u < 8 → wq_R h u ≤ 1)
def wq_K (n t : Nat) (a4 a6 a8 : Nat → Int32) : Prop := ∃ h, wq_H h n t a4 a6 a8
theorem wq_H_row {h : Nat → Nat} {n t v : Nat} {a4 a6 a8 : Nat → Int32} (hH : wq_H h n t a4 a6 a8) (hv : v < 8) : wq_R h v < 2 ^ 31 := by
  have t1 : wq_S h 64 = wq_S (wq_R h) 8 := wq_rows h 8
  have t2 := wq_S_get (f := wq_R h) hv
  have t3 := hH.2.1
  omega
theorem wq_H_cell {h : Nat → Nat} {n t j : Nat} {a4 a6 a8 : Nat → Int32} (hH : wq_H h n t a4 a6 a8) (hj : j < 64) : h j < 2 ^ 31 := by
  have t2 := wq_S_get (f := h) hj
  have t3 := hH.2.1
  omega
/-- the loop over the plan: after k steps -/
def wq_J (t : Nat) (a4 : Nat → Int32) (k : Nat) (s6 s8 : Nat → Int32) : Prop :=
  ∃ h, wq_A s6 h 64 ∧ wq_S h 64 ≤ 8 * 21 ^ k ∧ s8 k = nI (wq_S h 64) ∧ s8 0 = nI (wq_S (wq_b t) 8) ∧ (0 < k → a4 (k - 1) = 7 → ∀ u, u < 8 → wq_R h u ≤ 1)
theorem wq_J_put {t k : Nat} {a4 s6 s8 : Nat → Int32} {h : Nat → Nat} {y : Int32} (h0 : s8 0 = nI (wq_S (wq_b t) 8)) (hA : wq_A s6 h 64) (hS : wq_S h 64 ≤ 8 * 21 ^ (k + 1)) (hy : y = nI (wq_S h 64)) (h7 : a4 k = 7 → ∀ u, u < 8 → wq_R h u ≤ 1) :
    wq_J t a4 (k + 1) s6 (upd s8 (k + 1) y) := by
  refine ⟨h, hA, hS, ?_, ?_, fun _ e => h7 e⟩
  · rw [pk_us]
    exact hy
  · rw [pk_un (by omega)]
    exact h0
theorem wq_m5 {T k T' : Nat} (h : T ≤ 8 * 21 ^ k) (h2 : T' ≤ 21 * T) : T' ≤ 8 * 21 ^ (k + 1) := by
  rw [Nat.pow_succ]
  omega
theorem wq_m6 (k : Nat) : 8 ≤ 8 * 21 ^ (k + 1) := by
  have t : 0 < 21 ^ (k + 1) := Nat.pow_pos (by omega)
  omega
theorem wq_m7 {T k : Nat} (h : T ≤ 8 * 21 ^ k) : T ≤ 8 * 21 ^ (k + 1) := by
  rw [Nat.pow_succ]
  omega
section
variable {ec st kn : Int32} {a1 a2 a3 a4 a5 a6 a7 a8 : Nat → Int32}
theorem wq_w85 {post : St1 → Prop} {c n t t0 : Nat} (hG : wq_G c n t0 a2 a3) (hI : wq_J t a4 0 a6 a8)
    (H : ∀ b6 b7 b8, wq_J t a4 n b6 b8 → post (ec, nI n, st, kn, a1, a2, a3, a4, a5, b6, b7, b8)) :
    ∃ fu, wX_walk_85 post fu 0 ec (nI n) st kn a1 a2 a3 a4 a5 a6 a7 a8 := by
  obtain ⟨hc, hn, _, o, q, ho, hq, _, so, sq⟩ := hG
  refine pk_loop (σ := (Nat → Int32) × (Nat → Int32) × (Nat → Int32)) (fun m i p => wX_walk_85 post m (nI i) ec (nI n) st kn a1 a2 a3 a4 a5 p.1 p.2.1 p.2.2)
    (fun k p => wq_J t a4 k p.1 p.2.2) n 0 (a6, a7, a8) (by omega) hI ?_ ?_
  · intro m p hp
    exact pk_le n n (fun _ => H p.1 p.2.1 p.2.2 hp) (fun z => absurd z (by omega))
  · intro m k p hk hp hw
    obtain ⟨s6, s7, s8⟩ := p
    obtain ⟨h, h1, h2, h3, h4, h5⟩ := hp
    have K : ∀ b6 b7 g, wq_A b6 g 64 → wq_S g 64 ≤ 8 * 21 ^ (k + 1) → (a4 k = 7 → ∀ u, u < 8 → wq_R g u ≤ 1) →
        wX_walk_156 post (wX_walk_85 post m) (nI k) ec (nI n) st kn a1 a2 a3 a4 a5 b6 b7 s8 := by
      intro b6 b7 g hA hS h7
      unfold wX_walk_156
      refine wq_total hA ⟨pk_in (k + 1) 7 (by omega) (nI_1 k), ?_⟩
      rw [nI_1 k, nI_clamp (by omega)]
      exact nm_e (nm_e (hw (b6, b7, _) (wq_J_put h4 hA hS rfl h7)))
    refine pk_le n k (fun z => absurd z (by omega)) (fun _ => ⟨pk_in k 6 (by omega), ?_⟩)
    rw [nI_clamp (by omega)]
    refine br_c (fun _ => ⟨pk_in k 6 (by omega), br_c (fun _ => ?_) (fun e => ⟨pk_in k 6 (by omega), pk_in k 6 (by omega), ?_⟩)⟩) (fun e => ⟨pk_in k 6 (by omega), pk_in k 6 (by omega), ?_⟩)
    · exact wq_keepOne (fun a g hA hR => K a s7 g hA (Nat.le_trans (wq_ones hR) (wq_m6 k)) (fun _ => hR))
    · exact wq_filter h1 (fun a g hA hS => K a s7 g hA (wq_m7 (Nat.le_trans hS h2)) (fun z => absurd z e))
    · exact wq_move ho hq (by omega) (by omega) h1 (fun a b g hA hS => K a b g hA (wq_m5 h2 hS) (fun z => absurd (by rw [z]; decide) e))
theorem wq_walk {post : St1 → Prop} {c n t : Nat} (hG : wq_G c n t a2 a3)
    (H : ∀ kn' b6 b7 b8, ¬ kn' = 0 → wq_K n t a4 b6 b8 → post (nI c, nI n, nI t, kn', a1, a2, a3, a4, a5, b6, b7, b8))
    (H2 : ¬ kn = 0 → wq_K n t a4 a6 a8) :
    wpX_walk post (nI c, nI n, nI t, kn, a1, a2, a3, a4, a5, a6, a7, a8) := by
  unfold wpX_walk
  refine br_c (fun _ => ?_) (fun e => H kn a6 a7 a8 e (H2 e))
  have ht : t < 256 := hG.2.2.1
  have hn : n ≤ 6 := hG.2.1
  refine pk_loop (fun m i s => wX_walk_15 post (nI c) (nI n) (nI t) 1 m (nI i) a1 a2 a3 a4 a5 s a7 a8)
    (fun i s => ∀ j, j < i → s j = nI (wq_h0 t j)) 64 0 a6 (by omega) (fun j hj => absurd hj (by omega)) ?_ ?_
  · intro m s hI
    refine pk_le 64 64 (fun _ => wq_total (h := wq_h0 t) hI (nm_e ?_)) (fun z => absurd z (by omega))
    refine wq_w85 (t := t) hG ⟨wq_h0 t, hI, ?_, pk_us, ?_, fun z => absurd z (by omega)⟩ (fun b6 b7 b8 hJ => ?_)
    · have t2 := wq_S1b (f := wq_b t) (n := 8) (fun j _ => wq_b2 t j)
      rw [wq_h0s]
      omega
    · rw [pk_us, wq_h0s]
    · obtain ⟨h, h1, h2, h3, h4, h5⟩ := hJ
      exact H 1 b6 b7 b8 (by decide) ⟨h, h1, Nat.lt_of_le_of_lt h2 (wq_pow n hn), h3, h4, h5⟩
  · intro m i s hi hI hw
    have F : ∀ y, y = nI (wq_h0 t i) → ∀ j, j < i + 1 → upd s i y j = nI (wq_h0 t j) := by
      intro y hy j hj
      by_cases e : j = i
      · rw [e, pk_us, hy]
      · rw [pk_un e]
        exact hI j (by omega)
    have K50 : wq_h0 t i = 0 → wX_walk_50 post (wX_walk_15 post (nI c) (nI n) (nI t) 1 m) (nI i) (nI c) (nI n) (nI t) 1 a1 a2 a3 a4 a5 s a7 a8 := by
      intro e
      unfold wX_walk_50 wX_walk_51
      refine br_t rfl ⟨pk_in i 64 hi, ?_⟩
      rw [nI_clamp (by omega)]
      exact nm_e (nm_r (nI_1 i) (hw _ (F 0 (by rw [e]; rfl))))
    have K51 : wq_h0 t i = 1 → wX_walk_51 post (wX_walk_15 post (nI c) (nI n) (nI t) 1 m) (nI i) 1 (nI c) (nI n) (nI t) 1 a1 a2 a3 a4 a5 s a7 a8 := by
      intro e
      unfold wX_walk_51
      refine br_f (by decide) ⟨pk_in i 64 hi, ?_⟩
      rw [nI_clamp (by omega)]
      exact nm_e (nm_r (nI_1 i) (hw _ (F 1 (by rw [e]; rfl))))
    have b2 := wq_b2 t (i % 8)
    refine pk_le 64 i (fun z => absurd z (by omega)) (fun _ => ⟨by decide, by decide, ?_⟩)
    rw [wq_r8 hi, wq_d8 hi]
    refine pk_eq (i / 8) (i % 8) (fun e => ⟨by decide, ?_⟩) (fun e => K50 (if_neg e))
    exact pk_eq (wq_b t (i % 8)) 0 (fun e2 => K50 (by rw [wq_h0, if_pos e, e2])) (fun e2 => K51 (by rw [wq_h0, if_pos e]; omega)) (wq_bit (by omega) (by omega))
end
end
section
theorem wq_vtx {post : Int32 → Prop} {v : Nat} (hv : v < 8) (H : post 1) : wpX_isVertex post () (nI v) :=
  pk_lt v 0 (fun z => absurd z (by omega)) (fun _ => pk_le 8 v (fun z => absurd z (by omega)) (fun _ => H))
/-- the bits below i of r say where f is positive -/
def wq_B (r i : Nat) (f : Nat → Nat) : Prop := r < 2 ^ i ∧ ∀ w, w < i → (wq_b r w = 1 ↔ 0 < f w)
theorem wq_B0 (f : Nat → Nat) : wq_B 0 0 f := ⟨by decide, fun w hw => absurd hw (by omega)⟩
theorem wq_Blt {r i : Nat} {f : Nat → Nat} (h : wq_B r i f) (hi : i ≤ 8) : r < 256 := Nat.lt_of_lt_of_le h.1 (wq_p8 i hi)
theorem wq_Bz {r i : Nat} {f : Nat → Nat} (h : wq_B r i f) (hi : i < 8) (hz : f i = 0) : wq_B r (i + 1) f := by
  have t := wq_o i hi r (wq_Blt h (by omega)) h.1
  refine ⟨by have := t.2.1; omega, fun w hw => ?_⟩
  by_cases e : w = i
  · rw [e, t.2.2.2.1, hz]
    decide
  · exact h.2 w (by omega)
theorem wq_Bp {r i : Nat} {f : Nat → Nat} (h : wq_B r i f) (hi : i < 8) (hp : 0 < f i) : wq_B (r + 2 ^ i) (i + 1) f ∧ nI r ||| ((1 : Int32) <<< (nI i &&& 31)) = nI (r + 2 ^ i) := by
  have t := wq_o i hi r (wq_Blt h (by omega)) h.1
  refine ⟨⟨t.2.1, fun w hw => ?_⟩, t.1⟩
  by_cases e : w = i
  · rw [e, t.2.2.1]
    exact ⟨fun _ => hp, fun _ => rfl⟩
  · rw [t.2.2.2.2 w (by omega)]
    exact h.2 w (by omega)
section
variable {ec sz st kn : Int32} {a1 a2 a3 a4 a5 a6 a7 a8 : Nat → Int32}
theorem wq_kn {post : St1 → Prop} (hk : ¬ kn = 0) (H : post (ec, sz, st, kn, a1, a2, a3, a4, a5, a6, a7, a8)) : wpX_walk post (ec, sz, st, kn, a1, a2, a3, a4, a5, a6, a7, a8) := by
  unfold wpX_walk
  exact br_f hk H
theorem wq_at17 {post : Int32 → St1 → Prop} {h : Nat → Nat} {v : Nat} (hv : v < 8) (hA : wq_A a6 h 64) (H : post (nI (wq_R h v)) (ec, sz, st, kn, a1, a2, a3, a4, a5, a6, a7, a8)) :
    ∃ n, wX_at_17 post (nI v) ec sz st kn a1 a2 a3 a4 a5 a6 a7 a8 n 0 0 := by
  refine pk_loop (σ := Unit) (fun n i _ => wX_at_17 post (nI v) ec sz st kn a1 a2 a3 a4 a5 a6 a7 a8 n (nI (wq_S (fun s => h (v * 8 + s)) i)) (nI i)) (fun _ _ => True) 8 0 () (by omega) trivial ?_ ?_
  · intro n _ _
    exact pk_le 8 8 (fun _ => H) (fun z => absurd z (by omega))
  · intro n i _ hi _ hw
    refine pk_le 8 i (fun z => absurd z (by omega)) (fun _ => ⟨pk_in (v * 8 + i) 64 (by omega) (wq_ix v i), nm_r (e' := nI (wq_S (fun s => h (v * 8 + s)) (i + 1))) ?_ (nm_r (nI_1 i) (hw () trivial))⟩)
    rw [wq_cl (by omega), hA _ (by omega), nI_add]
    rfl
/-- at(v), once the walk is known -/
theorem wq_atK {post : Int32 → St1 → Prop} {h : Nat → Nat} {v : Nat} (hv : v < 8) (hk : ¬ kn = 0) (hA : wq_A a6 h 64) (H : post (nI (wq_R h v)) (ec, sz, st, kn, a1, a2, a3, a4, a5, a6, a7, a8)) :
    wpX_at post (ec, sz, st, kn, a1, a2, a3, a4, a5, a6, a7, a8) (nI v) := by
  unfold wpX_at
  dsimp only
  exact wq_vtx hv (br_f (by decide) (wq_kn hk (wq_at17 hv hA H)))
/-- at(v) in any state -/
theorem wq_at {post : Int32 → St1 → Prop} {c n t v : Nat} (hv : v < 8) (hG : wq_G c n t a2 a3) (hK : ¬ kn = 0 → wq_K n t a4 a6 a8)
    (H : ∀ kn' b6 b7 b8 h, ¬ kn' = 0 → wq_H h n t a4 b6 b8 → post (nI (wq_R h v)) (nI c, nI n, nI t, kn', a1, a2, a3, a4, a5, b6, b7, b8)) :
    wpX_at post (nI c, nI n, nI t, kn, a1, a2, a3, a4, a5, a6, a7, a8) (nI v) := by
  unfold wpX_at
  dsimp only
  refine wq_vtx hv (br_f (by decide) (wq_walk hG (fun kn' b6 b7 b8 hk hK' => ?_) hK))
  obtain ⟨h, hH⟩ := hK'
  exact wq_at17 hv hH.1 (H kn' b6 b7 b8 h hk hH)
theorem wq_betw {post : Int32 → St1 → Prop} {h : Nat → Nat} {s v : Nat} (hs : s < 8) (hv : v < 8) (hk : ¬ kn = 0) (hA : wq_A a6 h 64) (H : post (nI (h (v * 8 + s))) (ec, sz, st, kn, a1, a2, a3, a4, a5, a6, a7, a8)) :
    wpX_between post (ec, sz, st, kn, a1, a2, a3, a4, a5, a6, a7, a8) (nI s) (nI v) := by
  unfold wpX_between
  dsimp only
  refine wq_vtx hs (br_f (by decide) (wq_vtx hv (br_f (by decide) (wq_kn hk ⟨pk_in (v * 8 + s) 64 (by omega) (wq_ix v s), ?_⟩))))
  dsimp only
  rw [wq_cl (by omega), hA _ (by omega)]
  exact H
theorem wq_walkers {post : Int32 → St1 → Prop} {n : Nat} (hn : n ≤ 6) (hk : ¬ kn = 0) (H : post (a8 n) (ec, nI n, st, kn, a1, a2, a3, a4, a5, a6, a7, a8)) :
    wpX_walkers post (ec, nI n, st, kn, a1, a2, a3, a4, a5, a6, a7, a8) := by
  unfold wpX_walkers
  dsimp only
  refine wq_kn hk ⟨pk_in n 7 (by omega), ?_⟩
  rw [nI_clamp (by omega)]
  exact H
theorem wq_after {post : Int32 → St1 → Prop} {n k : Nat} (hn : n ≤ 6) (hkn : k ≤ n) (hk : ¬ kn = 0) (H : post (a8 k) (ec, nI n, st, kn, a1, a2, a3, a4, a5, a6, a7, a8)) :
    wpX_after post (ec, nI n, st, kn, a1, a2, a3, a4, a5, a6, a7, a8) (nI k) := by
  unfold wpX_after
  dsimp only
  refine pk_lt k 0 (fun z => absurd z (by omega)) (fun _ => pk_le k n (fun _ => wq_kn hk ⟨pk_in k 7 (by omega), ?_⟩) (fun z => absurd z (by omega)))
  rw [nI_clamp (by omega)]
  exact H
theorem wq_after1 {post : Int32 → St1 → Prop} {n : Nat} (hn : n ≤ 6) (H : post (-1) (ec, nI n, st, kn, a1, a2, a3, a4, a5, a6, a7, a8)) :
    wpX_after post (ec, nI n, st, kn, a1, a2, a3, a4, a5, a6, a7, a8) (nI n + 1) := by
  unfold wpX_after
  dsimp only
  rw [nI_1]
  exact pk_lt (n + 1) 0 (fun z => absurd z (by omega)) (fun _ => pk_le (n + 1) n (fun z => absurd z (by omega)) (fun _ => H))
theorem wq_reached {post : Int32 → St1 → Prop} {c n t : Nat} (hG : wq_G c n t a2 a3) (hK : ¬ kn = 0 → wq_K n t a4 a6 a8)
    (H : ∀ kn' b6 b7 b8 h r, ¬ kn' = 0 → wq_H h n t a4 b6 b8 → wq_B r 8 (wq_R h) → post (nI r) (nI c, nI n, nI t, kn', a1, a2, a3, a4, a5, b6, b7, b8)) :
    wpX_reached post (nI c, nI n, nI t, kn, a1, a2, a3, a4, a5, a6, a7, a8) := by
  unfold wpX_reached
  refine pk_loop (σ := Nat × Int32 × (Nat → Int32) × (Nat → Int32) × (Nat → Int32)) (fun m i p => wX_reached_4 post m (nI p.1) (nI i) (nI c) (nI n) (nI t) p.2.1 a1 a2 a3 a4 a5 p.2.2.1 p.2.2.2.1 p.2.2.2.2)
    (fun i p => (i = 0 ∧ p.1 = 0 ∧ (¬ p.2.1 = 0 → wq_K n t a4 p.2.2.1 p.2.2.2.2)) ∨ (¬ p.2.1 = 0 ∧ ∃ h, wq_H h n t a4 p.2.2.1 p.2.2.2.2 ∧ wq_B p.1 i (wq_R h))) 8 0 (0, kn, a6, a7, a8) (by omega) (Or.inl ⟨rfl, rfl, hK⟩) ?_ ?_
  · intro m p hI
    obtain ⟨r, k, s6, s7, s8⟩ := p
    rcases hI with ⟨h0, _⟩ | ⟨h1, h, h2, h3⟩
    · omega
    · exact pk_le 8 8 (fun _ => H k s6 s7 s8 h r h1 h2 h3) (fun z => absurd z (by omega))
  · intro m i p hi hI hw
    obtain ⟨r, k, s6, s7, s8⟩ := p
    have C : ∀ k' b6 b7 b8 h, ¬ k' = 0 → wq_H h n t a4 b6 b8 → wq_B r i (wq_R h) →
        (nI (wq_R h i) ≤ 0 → ∀ x, x = nI r ||| 0 → ∀ y, y = nI i + 1 → wX_reached_4 post m x y (nI c) (nI n) (nI t) k' a1 a2 a3 a4 a5 b6 b7 b8) ∧
        (¬ nI (wq_R h i) ≤ 0 → ∀ x, x = nI r ||| ((1 : Int32) <<< (nI i &&& 31)) → ∀ y, y = nI i + 1 → wX_reached_4 post m x y (nI c) (nI n) (nI t) k' a1 a2 a3 a4 a5 b6 b7 b8) := by
      intro k' b6 b7 b8 h hk hH hB
      have hr := wq_H_row hH hi
      refine pk_le (wq_R h i) 0 (fun z => nm_r (wq_o0 r (wq_Blt hB (by omega))) (nm_r (nI_1 i) (hw (r, k', b6, b7, b8) (Or.inr ⟨hk, h, hH, wq_Bz hB hi (by omega)⟩)))) (fun z => ?_)
      have t2 := wq_Bp hB hi z
      exact nm_r t2.2 (nm_r (nI_1 i) (hw (r + 2 ^ i, k', b6, b7, b8) (Or.inr ⟨hk, h, hH, t2.1⟩)))
    refine pk_le 8 i (fun z => absurd z (by omega)) (fun _ => ?_)
    rcases hI with ⟨h0, h1, h2⟩ | ⟨h1, h, h2, h3⟩
    · refine wq_at hi hG h2 (fun k' b6 b7 b8 h hk hH => C k' b6 b7 b8 h hk hH ?_)
      have h1' : r = 0 := h1
      rw [h0, h1']
      exact wq_B0 _
    · exact wq_atK hi h1 h2.1 (C k s6 s7 s8 h h1 h2 h3)
theorem wq_startsAt {post : Int32 → St1 → Prop} {h : Nat → Nat} {n t v : Nat} (hv : v < 8) (hk : ¬ kn = 0) (hH : wq_H h n t a4 a6 a8)
    (H : ∀ r, wq_B r 8 (fun s => h (v * 8 + s)) → post (nI r) (ec, sz, st, kn, a1, a2, a3, a4, a5, a6, a7, a8)) :
    wpX_startsAt post (ec, sz, st, kn, a1, a2, a3, a4, a5, a6, a7, a8) (nI v) := by
  unfold wpX_startsAt
  refine pk_loop (fun m i r => wX_startsAt_4 post (nI v) m (nI r) (nI i) ec sz st kn a1 a2 a3 a4 a5 a6 a7 a8)
    (fun i r => wq_B r i (fun s => h (v * 8 + s))) 8 0 0 (by omega) (wq_B0 _) ?_ ?_
  · intro m r hI
    exact pk_le 8 8 (fun _ => H r hI) (fun z => absurd z (by omega))
  · intro m i r hi hI hw
    refine pk_le 8 i (fun z => absurd z (by omega)) (fun _ => wq_betw hi hv hk hH.1 ?_)
    have hr := wq_H_cell hH (j := v * 8 + i) (by omega)
    refine pk_le (h (v * 8 + i)) 0 (fun z => nm_r (wq_o0 r (wq_Blt hI (by omega))) (nm_r (nI_1 i) (hw r (wq_Bz hI hi (by omega))))) (fun z => ?_)
    have t2 := wq_Bp hI hi z
    exact nm_r t2.2 (nm_r (nI_1 i) (hw (r + 2 ^ i) t2.1))
/-- the first place at or behind i, up to n, where the totals are 0 -/
def wq_D (tt : Nat → Int32) (n i : Nat) (d : Int32) : Prop :=
  (d = -1 ∧ ∀ j, i ≤ j → j ≤ n → ¬ tt j = 0) ∨ ∃ m, i ≤ m ∧ m ≤ n ∧ d = nI m ∧ tt m = 0 ∧ ∀ j, i ≤ j → j < m → ¬ tt j = 0
theorem wq_dies {post : Int32 → St1 → Prop} {n : Nat} {d : Int32} (hn : n ≤ 6) (hk : ¬ kn = 0) (hD : wq_D a8 n 0 d) (H : post d (ec, nI n, st, kn, a1, a2, a3, a4, a5, a6, a7, a8)) :
    wpX_diesAfter post (ec, nI n, st, kn, a1, a2, a3, a4, a5, a6, a7, a8) := by
  unfold wpX_diesAfter
  dsimp only
  refine wq_kn hk ?_
  dsimp only
  rcases hD with ⟨hd, h1⟩ | ⟨m, _, hm, hd, h0, h1⟩
  · subst hd
    refine pk_loop (σ := Unit) (fun f i _ => wX_diesAfter_6 post ec (nI n) st kn a1 a2 a3 a4 a5 a6 a7 a8 f (nI i)) (fun _ _ => True) (n + 1) 0 () (by omega) trivial ?_ ?_
    · intro f _ _
      exact pk_lt n (n + 1) (fun _ => H) (fun z => absurd z (by omega))
    · intro f i _ hi _ hw
      refine pk_lt n i (fun z => absurd z (by omega)) (fun _ => ⟨pk_in i 7 (by omega), ?_⟩)
      rw [nI_clamp (by omega)]
      exact br_f (h1 i (by omega) (by omega)) (nm_r (nI_1 i) (hw () trivial))
  · subst hd
    refine pk_loop (σ := Unit) (fun f i _ => wX_diesAfter_6 post ec (nI n) st kn a1 a2 a3 a4 a5 a6 a7 a8 f (nI i)) (fun _ _ => True) m 0 () (by omega) trivial ?_ ?_
    · intro f _ _
      refine pk_lt n m (fun z => absurd z (by omega)) (fun _ => ⟨pk_in m 7 (by omega), ?_⟩)
      rw [nI_clamp (by omega)]
      exact br_t h0 H
    · intro f i _ hi _ hw
      refine pk_lt n i (fun z => absurd z (by omega)) (fun _ => ⟨pk_in i 7 (by omega), ?_⟩)
      rw [nI_clamp (by omega)]
      exact br_f (h1 i (by omega) hi) (nm_r (nI_1 i) (hw () trivial))
end
end
section
section
variable {ec st kn : Int32} {a1 a2 a3 a4 a5 a6 a7 a8 : Nat → Int32}
theorem wq_pl9 {post : Int32 → St1 → Prop} {h : Nat → Nat} {n t r : Nat} (hn : n ≤ 6) (hk : ¬ kn = 0) (hH : wq_H h n t a4 a6 a8) (hB : wq_B r 8 (wq_R h))
    (H : post 1 (ec, nI n, st, kn, a1, a2, a3, a4, a5, a6, a7, a8)) :
    ∃ fu, wL_places_9 post (nI r) fu 0 0 ec (nI n) st kn a1 a2 a3 a4 a5 a6 a7 a8 := by
  refine pk_loop (σ := Unit) (fun m i _ => wL_places_9 post (nI r) m (nI (wq_S h (i * 8))) (nI i) ec (nI n) st kn a1 a2 a3 a4 a5 a6 a7 a8) (fun _ _ => True) 8 0 () (by omega) trivial ?_ ?_
  · intro m _ _
    exact pk_le 8 8 (fun _ => wq_walkers hn hk (br_t hH.2.2.1 H)) (fun z => absurd z (by omega))
  · intro m v _ hv _ hout
    have hR := wq_H_row hH hv
    have hr := wq_Blt hB (Nat.le_refl 8)
    refine pk_le 8 v (fun z => absurd z (by omega)) (fun _ => wq_atK hv hk hH.1 (wq_startsAt hv hk hH (fun s hS => ?_)))
    have hs := wq_Blt hS (Nat.le_refl 8)
    refine pk_loop (σ := Unit) (fun f i _ => wL_places_35 post (wL_places_9 post (nI r) m) (nI (wq_S h (v * 8))) (nI r) (nI v) (nI (wq_R h v)) (nI s) f (nI (wq_S (fun j => h (v * 8 + j)) i)) (nI i) ec (nI n) st kn a1 a2 a3 a4 a5 a6 a7 a8) (fun _ _ => True) 8 0 () (by omega) trivial ?_ ?_
    · intro f _ _
      have b2 := wq_b2 r v
      refine pk_le 8 8 (fun _ => nm_r (e' := nI (wq_S h ((v + 1) * 8))) (by rw [nI_add, wq_row]) (br_t rfl ?_)) (fun z => absurd z (by omega))
      refine pk_eq (wq_b r v) 1 (fun e => ?_) (fun e => ?_) (wq_bit (by omega) (by omega))
      · exact br_f (nI_nle ((hB.2 v hv).mp e) hR) (br_t rfl (nm_r (nI_1 v) (hout () trivial)))
      · have hz : wq_R h v ≤ 0 := Nat.le_of_not_lt (fun z => e ((hB.2 v hv).mpr z))
        exact br_t (nI_le (b := 0) hz (by decide)) (br_t rfl (nm_r (nI_1 v) (hout () trivial)))
    · intro f i _ hi _ hw
      have b2 := wq_b2 s i
      have hc := wq_H_cell hH (j := v * 8 + i) (by omega)
      refine pk_le 8 i (fun z => absurd z (by omega)) (fun _ => wq_betw hi hv hk hH.1 (nm_r (e' := nI (wq_S (fun j => h (v * 8 + j)) (i + 1))) (by rw [nI_add]; rfl) ?_))
      refine pk_eq (wq_b s i) 1 (fun e => ?_) (fun e => ?_) (wq_bit (by omega) (by omega))
      · exact br_f (nI_nle ((hS.2 i hi).mp e) hc) (br_t rfl (br_t (nI_pos' hc) (nm_r (nI_1 i) (hw () trivial))))
      · have hz : h (v * 8 + i) ≤ 0 := Nat.le_of_not_lt (fun z => e ((hS.2 i hi).mpr z))
        exact br_t (nI_le (b := 0) hz (by decide)) (br_t rfl (br_t (nI_pos' hc) (nm_r (nI_1 i) (hw () trivial))))
theorem wq_places {post : Int32 → St1 → Prop} {c n t : Nat} (hG : wq_G c n t a2 a3) (hK : ¬ kn = 0 → wq_K n t a4 a6 a8)
    (H : ∀ kn' b6 b7 b8 h, ¬ kn' = 0 → wq_H h n t a4 b6 b8 → post 1 (nI c, nI n, nI t, kn', a1, a2, a3, a4, a5, b6, b7, b8)) :
    wpL_places post (nI c, nI n, nI t, kn, a1, a2, a3, a4, a5, a6, a7, a8) := by
  unfold wpL_places
  dsimp only
  refine wq_reached hG hK (fun kn' b6 b7 b8 h r hk hH hB => ?_)
  exact wq_pl9 hG.2.1 hk hH hB (H kn' b6 b7 b8 h hk hH)
theorem wq_st33 {post : Int32 → St1 → Prop} {h : Nat → Nat} {n t : Nat} (hn : n ≤ 6) (hk : ¬ kn = 0) (hH : wq_H h n t a4 a6 a8)
    (H : post 1 (ec, nI n, st, kn, a1, a2, a3, a4, a5, a6, a7, a8)) :
    ∃ fu, wL_stages_33 post (nI n) (nI (wq_S (wq_b t) 8)) fu (-1) (nI n) ec (nI n) st kn a1 a2 a3 a4 a5 a6 a7 a8 := by
  have L : wL_stages_33 post (nI n) (nI (wq_S (wq_b t) 8)) (n + 1 + 1) (-1) (nI (n + 1) + (-1)) ec (nI n) st kn a1 a2 a3 a4 a5 a6 a7 a8 := by
    refine pk_loopD (σ := Int32) (fun f i d => wL_stages_33 post (nI n) (nI (wq_S (wq_b t) 8)) f d (nI i + (-1)) ec (nI n) st kn a1 a2 a3 a4 a5 a6 a7 a8) (fun i d => i ≤ n + 1 ∧ wq_D a8 n i d) ?_ ?_ (n + 1) (-1) ⟨Nat.le_refl _, Or.inl ⟨rfl, fun j h1 h2 => absurd h1 (by omega)⟩⟩
    · intro f d hI
      refine br_t (by decide) ?_
      exact wq_after (k := 0) hn (by omega) hk (br_t hH.2.2.2.1 (wq_after hn (Nat.le_refl n) hk (wq_walkers hn hk (br_t rfl (wq_after1 hn (br_t rfl (wq_dies hn hk hI.2 (br_t rfl H))))))))
    · intro f i d hI hw
      show wL_stages_33 post (nI n) (nI (wq_S (wq_b t) 8)) (f + 1) d (nI (i + 1) + (-1)) ec (nI n) st kn a1 a2 a3 a4 a5 a6 a7 a8
      rw [pk_m1]
      obtain ⟨hi, hD⟩ := hI
      refine pk_lt i 0 (fun z => absurd z (by omega)) (fun _ => wq_after hn (by omega) hk ?_)
      refine br_c (fun e => nm_e (hw (nI i) ⟨by omega, Or.inr ⟨i, Nat.le_refl i, by omega, rfl, e, fun j h1 h2 => absurd h1 (by omega)⟩⟩)) (fun e => nm_e (hw d ⟨by omega, ?_⟩))
      rcases hD with ⟨hd, h1⟩ | ⟨m, hm, hm2, hd, h0, h1⟩
      · refine Or.inl ⟨hd, fun j h2 h3 => ?_⟩
        by_cases ej : j = i
        · rw [ej]
          exact e
        · exact h1 j (by omega) h3
      · refine Or.inr ⟨m, by omega, hm2, hd, h0, fun j h2 h3 => ?_⟩
        by_cases ej : j = i
        · rw [ej]
          exact e
        · exact h1 j (by omega) h3
  rw [pk_m1] at L
  exact ⟨_, L⟩
theorem wq_stages {post : Int32 → St1 → Prop} {h : Nat → Nat} {n t : Nat} (hn : n ≤ 6) (ht : t < 256) (hk : ¬ kn = 0) (hH : wq_H h n t a4 a6 a8)
    (H : post 1 (ec, nI n, st, kn, a1, a2, a3, a4, a5, a6, a7, a8)) :
    wpL_stages post (ec, nI n, st, kn, a1, a2, a3, a4, a5, a6, a7, a8) (nI n) (nI t) := by
  unfold wpL_stages
  refine pk_loop (σ := Unit) (fun f i _ => wL_stages_5 post (nI n) (nI t) ec (nI n) st kn a1 a2 a3 a4 a5 a6 a7 a8 f (nI (wq_S (wq_b t) i)) (nI i)) (fun _ _ => True) 8 0 () (by omega) trivial ?_ ?_
  · intro f _ _
    exact pk_le 8 8 (fun _ => wq_st33 hn hk hH H) (fun z => absurd z (by omega))
  · intro f i _ hi _ hw
    refine pk_le 8 i (fun z => absurd z (by omega)) (fun _ => nm_r (e' := nI (wq_S (wq_b t) (i + 1))) ?_ (nm_r (nI_1 i) (hw () trivial)))
    rw [wq_bit (by omega) (by omega), nI_add]
    rfl
end
end
section
/-- what holds of an object between the law's calls -/
def wq_I (c n t : Nat) (kn : Int32) (a2 a3 a4 a6 a8 : Nat → Int32) : Prop := wq_G c n t a2 a3 ∧ (¬ kn = 0 → wq_K n t a4 a6 a8)
theorem wq_turnG {c c' n t a b l : Nat} {a2 a3 : Nat → Int32} {o q : Nat → Nat} (ha : a < 8) (hb : b < 8) (hl : l < 2) (hn : n ≤ 6) (ht : t < 256)
    (ho : ∀ j, j < 16 → a2 j = nI (o j) ∧ o j < 256) (hq : ∀ j, j < 16 → a3 j = nI (q j) ∧ q j < 256)
    (hT : ∀ l a b, l < 2 → a < 8 → b < 8 → wq_b (o (l * 8 + a)) b = wq_b (q (l * 8 + b)) a)
    (so : wq_S (fun j => wq_c (o j)) 16 = c) (sq : wq_S (fun j => wq_c (q j)) 16 = c) (hc : c' ≤ 10)
    (e : c' + wq_b (o (l * 8 + a)) b = c + (1 - wq_b (o (l * 8 + a)) b)) :
    wq_G c' n t (upd a2 (l * 8 + a) (nI (o (l * 8 + a) ^^^ 2 ^ b))) (upd a3 (l * 8 + b) (nI (q (l * 8 + b) ^^^ 2 ^ a))) := by
  have hoa := (ho (l * 8 + a) (by omega)).2
  have hqb := (hq (l * 8 + b) (by omega)).2
  have P : ∀ (f : Nat → Nat) (A : Nat → Int32) (k x : Nat), (∀ j, j < 16 → A j = nI (f j) ∧ f j < 256) → x < 256 → ∀ j, j < 16 → upd A k (nI x) j = nI (wq_u f k x j) ∧ wq_u f k x j < 256 := by
    intro f A k x hf hx j hj
    by_cases ej : j = k
    · rw [ej, pk_us, wq_us]
      exact ⟨rfl, hx⟩
    · rw [pk_un ej, wq_un ej]
      exact hf j hj
  have Q : ∀ (f : Nat → Nat) (k i : Nat), f k < 256 → i < 8 → k < 16 → wq_S (fun j => wq_c (f j)) 16 = c → c' + wq_b (f k) i = c + (1 - wq_b (f k) i) →
      wq_S (fun j => wq_c (wq_u f k (f k ^^^ 2 ^ i) j)) 16 = c' := by
    intro f k i hf hi hk hs he
    have t1 := wq_S_put (f := fun j => wq_c (f j)) (g := fun j => wq_c (wq_u f k (f k ^^^ 2 ^ i) j)) (k := k) (n := 16) hk (fun j hj => by show wq_c (wq_u f k (f k ^^^ 2 ^ i) j) = wq_c (f j); rw [wq_un hj])
    have t2 := wq_xc (f k) hf i hi
    have t3 := wq_b2 (f k) i
    have t4 : wq_c (wq_u f k (f k ^^^ 2 ^ i) k) = wq_c (f k ^^^ 2 ^ i) := by rw [wq_us]
    omega
  refine ⟨hc, hn, ht, wq_u o (l * 8 + a) (o (l * 8 + a) ^^^ 2 ^ b), wq_u q (l * 8 + b) (q (l * 8 + b) ^^^ 2 ^ a), P o a2 _ _ ho (wq_x _ hoa b hb).2, P q a3 _ _ hq (wq_x _ hqb a ha).2, ?_, Q o _ b hoa hb (by omega) so e, Q q _ a hqb ha (by omega) sq (by rw [← hT l a b hl ha hb]; exact e)⟩
  intro l' a' b' hl' ha' hb'
  have T := hT l' a' b' hl' ha' hb'
  by_cases e1 : l' = l
  · rw [e1] at T ⊢
    by_cases e2 : a' = a
    · rw [e2] at T ⊢
      rw [wq_us, wq_xb _ hoa b hb b' hb']
      by_cases e3 : b' = b
      · rw [e3] at T ⊢
        rw [wq_us, wq_xb _ hqb a ha a ha, if_pos rfl, if_pos rfl, T]
      · rw [if_neg e3, wq_un (by omega)]
        exact T
    · rw [wq_un (j := l * 8 + a') (by omega)]
      by_cases e3 : b' = b
      · rw [e3] at T ⊢
        rw [wq_us, wq_xb _ hqb a ha a' ha', if_neg e2]
        exact T
      · rw [wq_un (by omega)]
        exact T
  · rw [wq_un (by omega), wq_un (by omega)]
    exact T
section
variable {ec sz st kn : Int32} {a1 a2 a3 a4 a5 a6 a7 a8 : Nat → Int32}
theorem wq_from {post : Int32 → St1 → Prop} {s : Nat} (hs : s < 256) (H : post 1 (ec, sz, nI s, 0, a1, a2, a3, a4, a5, a6, a7, a8)) :
    wpX_from post (ec, sz, st, kn, a1, a2, a3, a4, a5, a6, a7, a8) (nI s) := by
  unfold wpX_from
  exact pk_lt s 0 (fun z => absurd z (by omega)) (fun _ => pk_le s 255 (fun _ => H) (fun z => absurd z (by omega)))
theorem wq_drop {post : Int32 → St1 → Prop} {n : Nat} (hn : n ≤ 6) (H0 : n = 0 → post (-1) (ec, nI n, st, kn, a1, a2, a3, a4, a5, a6, a7, a8))
    (H : ∀ m, m + 1 = n → post (nI m) (ec, nI m, st, 0, a1, a2, a3, a4, a5, a6, a7, a8)) :
    wpX_drop post (ec, nI n, st, kn, a1, a2, a3, a4, a5, a6, a7, a8) := by
  unfold wpX_drop
  exact pk_eq n 0 (fun z => H0 z) (fun z => nm_r (e' := nI (n - 1)) (pk_sub (b := 1) (by omega)) (H (n - 1) (by omega)))
theorem wq_add {post : Int32 → St1 → Prop} {n k m : Nat} (hn : n ≤ 6) (hk : k < 8) (hm : m ≤ 9) (hm2 : k ≤ 3 → m ≤ 2)
    (H6 : n = 6 → post (-2) (ec, nI n, st, kn, a1, a2, a3, a4, a5, a6, a7, a8))
    (H : n < 6 → ∀ b5, post (nI (n + 1)) (ec, nI (n + 1), st, 0, a1, a2, a3, upd a4 n (nI k).toInt8.toInt32, b5, a6, a7, a8)) :
    wpX_add post (ec, nI n, st, kn, a1, a2, a3, a4, a5, a6, a7, a8) (nI k) (nI m) := by
  have K55 : ∀ x3, wX_add_55 post (nI k) (nI m) x3 ec (nI n) st kn a1 a2 a3 a4 a5 a6 a7 a8 := by
    intro x3
    unfold wX_add_55
    refine pk_lt n 6 (fun z => ⟨pk_in n 6 z, ?_⟩) (fun z => H6 (by omega))
    rw [nI_clamp (by omega)]
    refine nm_e ?_
    have K100 : ∀ y, wX_add_100 post y (nI n) ec (nI n) st kn a1 a2 a3 (upd a4 n (nI k).toInt8.toInt32) a5 a6 a7 a8 :=
      fun y => ⟨pk_in n 6 z, nm_e (nm_r (nI_1 n) (H z _))⟩
    have K95 : ∀ y, wX_add_95 post y (nI n) ec (nI n) st kn a1 a2 a3 (upd a4 n (nI k).toInt8.toInt32) a5 a6 a7 a8 := K100
    exact br_c (fun _ => br_c (fun _ => K95 _) (fun _ => K100 0)) (fun _ => K95 _)
  have K38 : ∀ x3, wX_add_38 post (nI k) (nI m) x3 ec (nI n) st kn a1 a2 a3 a4 a5 a6 a7 a8 := by
    intro x3
    unfold wX_add_38
    exact br_c (fun _ => pk_lt m 0 (fun z => absurd z (by omega)) (fun _ => pk_le m 9 (fun _ => K55 x3) (fun z => absurd z (by omega)))) (fun _ => K55 x3)
  have K14 : ∀ x3, (¬ x3 = 0 → m ≤ 2) → wX_add_14 post (nI k) (nI m) x3 ec (nI n) st kn a1 a2 a3 a4 a5 a6 a7 a8 := by
    intro x3 h3
    unfold wX_add_14
    refine pk_lt k 0 (fun z => absurd z (by omega)) (fun _ => pk_lt 7 k (fun z => absurd z (by omega)) (fun _ => br_c (fun _ => K38 x3) (fun z => ?_)))
    have h4 := h3 z
    exact pk_lt m 0 (fun z => absurd z (by omega)) (fun _ => pk_lt 2 m (fun z => absurd z (by omega)) (fun _ => K38 x3))
  have K13 : wX_add_13 post (nI k) (nI m) ec (nI n) st kn a1 a2 a3 a4 a5 a6 a7 a8 := K14 0 (fun z => absurd rfl z)
  unfold wpX_add
  exact pk_lt k 0 (fun z => absurd z (by omega)) (fun _ => pk_lt 3 k (fun _ => K13) (fun z => K14 1 (fun _ => hm2 z)))
theorem wq_mark {post : Int32 → St1 → Prop} {v m : Nat} (hv : v < 8) (hm : m ≤ 9) (H : ∀ b1, post 1 (ec, sz, st, 0, b1, a2, a3, a4, a5, a6, a7, a8)) :
    wpX_mark post (ec, sz, st, kn, a1, a2, a3, a4, a5, a6, a7, a8) (nI v) (nI m) := by
  unfold wpX_mark
  dsimp only
  exact wq_vtx hv (br_f (by decide) (pk_lt m 0 (fun z => absurd z (by omega)) (fun _ => pk_le m 9 (fun _ => ⟨pk_in v 8 hv, nm_e (H _)⟩) (fun z => absurd z (by omega)))))
theorem wq_isEdge {post : Int32 → Prop} {a b l : Nat} (ha : a < 8) (hb : b < 8) (hl : l < 2) (H0 : post 0) (H1 : post 1) : wpX_isEdge post () (nI a) (nI b) (nI l) := by
  unfold wpX_isEdge
  exact wq_vtx ha (br_f (by decide) (wq_vtx hb (br_f (by decide) (pk_eq a b (fun _ => H0) (fun _ => pk_eq l 0 (fun _ => H1) (fun _ => pk_eq l 1 (fun _ => H1) (fun _ => H0)))))))
theorem wq_hasEdge {post : Int32 → Prop} {a b l x : Nat} (ha : a < 8) (hb : b < 8) (hl : l < 2) (hx : a2 (l * 8 + a) = nI x) (h256 : x < 256)
    (H0 : wq_b x b = 0 → post 0) (H1 : wq_b x b = 1 → post 1) : wpX_hasEdge post (ec, sz, st, kn, a1, a2, a3, a4, a5, a6, a7, a8) (nI a) (nI b) (nI l) := by
  have b2 := wq_b2 x b
  unfold wpX_hasEdge
  dsimp only
  rw [wq_cl (by omega), hx]
  exact ⟨pk_in (l * 8 + a) 16 (by omega) (wq_ix l a), pk_eq (wq_b x b) 0 (fun e => H0 e) (fun e => H1 (by omega)) (wq_bit (by omega) (by omega))⟩
theorem wq_turn {post : St1 → Prop} {a b l x y : Nat} (ha : a < 8) (hb : b < 8) (hl : l < 2) (hx : a2 (l * 8 + a) = nI x) (hx2 : x < 256) (hy : a3 (l * 8 + b) = nI y) (hy2 : y < 256)
    (H : post (ec, sz, st, 0, a1, upd a2 (l * 8 + a) (nI (x ^^^ 2 ^ b)), upd a3 (l * 8 + b) (nI (y ^^^ 2 ^ a)), a4, a5, a6, a7, a8)) :
    wpX_turn post (ec, sz, st, kn, a1, a2, a3, a4, a5, a6, a7, a8) (nI a) (nI b) (nI l) := by
  unfold wpX_turn
  dsimp only
  refine nm_r (wq_ix l a) (nm_r (wq_ix l b) ⟨pk_in (l * 8 + a) 16 (by omega), pk_in (l * 8 + a) 16 (by omega), ?_⟩)
  rw [nI_clamp (show l * 8 + a < 2 ^ 31 by omega), nI_clamp (show l * 8 + b < 2 ^ 31 by omega), hx, hy, (wq_x x hx2 b hb).1, (wq_x y hy2 a ha).1]
  exact nm_e ⟨pk_in (l * 8 + b) 16 (by omega), pk_in (l * 8 + b) 16 (by omega), nm_e H⟩
theorem wq_join {post : Int32 → St1 → Prop} {c n t a b l : Nat} (ha : a < 8) (hb : b < 8) (hl : l < 2) (hG : wq_G c n t a2 a3)
    (H0 : ∀ r, post r (nI c, nI n, nI t, kn, a1, a2, a3, a4, a5, a6, a7, a8))
    (H : ∀ r c' b2 b3, wq_G c' n t b2 b3 → post r (nI c', nI n, nI t, 0, a1, b2, b3, a4, a5, a6, a7, a8)) :
    wpX_join post (nI c, nI n, nI t, kn, a1, a2, a3, a4, a5, a6, a7, a8) (nI a) (nI b) (nI l) := by
  obtain ⟨hc, hn, ht, o, q, ho, hq, hT, so, sq⟩ := hG
  have hoa := ho (l * 8 + a) (by omega)
  have hqb := hq (l * 8 + b) (by omega)
  unfold wpX_join
  dsimp only
  refine wq_isEdge ha hb hl (br_t rfl (H0 0)) (br_f (by decide) (wq_hasEdge ha hb hl hoa.1 hoa.2 (fun e => br_t rfl ?_) (fun e => br_f (by decide) (H0 0))))
  refine pk_lt c 10 (fun z => wq_turn ha hb hl hoa.1 hoa.2 hqb.1 hqb.2 (nm_r (nI_1 c) (H 1 (c + 1) _ _ (wq_turnG ha hb hl hn ht ho hq hT so sq (by omega) ?_)))) (fun _ => H0 0)
  rw [e]
theorem wq_cut {post : Int32 → St1 → Prop} {c n t a b l : Nat} (ha : a < 8) (hb : b < 8) (hl : l < 2) (hG : wq_G c n t a2 a3)
    (H0 : ∀ r, post r (nI c, nI n, nI t, kn, a1, a2, a3, a4, a5, a6, a7, a8))
    (H : ∀ r c' b2 b3, wq_G c' n t b2 b3 → post r (nI c', nI n, nI t, 0, a1, b2, b3, a4, a5, a6, a7, a8)) :
    wpX_cut post (nI c, nI n, nI t, kn, a1, a2, a3, a4, a5, a6, a7, a8) (nI a) (nI b) (nI l) := by
  obtain ⟨hc, hn, ht, o, q, ho, hq, hT, so, sq⟩ := hG
  have hoa := ho (l * 8 + a) (by omega)
  have hqb := hq (l * 8 + b) (by omega)
  unfold wpX_cut
  dsimp only
  refine wq_isEdge ha hb hl (br_t rfl (H0 0)) (br_f (by decide) (wq_hasEdge ha hb hl hoa.1 hoa.2 (fun e => br_t rfl (H0 0)) (fun e => br_f (by decide) ?_)))
  have c1 : 1 ≤ c := by
    have t1 := wq_S_get (f := wq_b (o (l * 8 + a))) (k := b) (n := 8) hb
    have t2 := wq_S_get (f := fun j => wq_c (o j)) (k := l * 8 + a) (n := 16) (by omega)
    have t3 : wq_c (o (l * 8 + a)) = wq_S (wq_b (o (l * 8 + a))) 8 := rfl
    omega
  refine wq_turn ha hb hl hoa.1 hoa.2 hqb.1 hqb.2 (nm_r (e' := nI (c - 1)) (pk_sub (b := 1) c1) (H 1 (c - 1) _ _ (wq_turnG ha hb hl hn ht ho hq hT so sq (by omega) ?_)))
  rw [e]
  omega
end
end
section
/-- how the law's count of steps goes -/
def wq_nx (w n n' : Nat) : Prop := (17 ≤ w ∧ w < 26 ∧ n < 6 ∧ n' = n + 1) ∨ (26 ≤ w ∧ w < 29 ∧ 0 < n ∧ n' + 1 = n) ∨ (n' = n ∧ ¬ (17 ≤ w ∧ w < 26 ∧ n < 6) ∧ ¬ (26 ≤ w ∧ w < 29 ∧ 0 < n))
section
variable {kn : Int32} {a1 a2 a3 a4 a5 a6 a7 a8 : Nat → Int32}
theorem wq_call {post : St1 → Prop} {c n t w : Nat} {x : Int32} (hI : wq_I c n t kn a2 a3 a4 a6 a8) (hw : w < 32)
    (H : ∀ c' n' t' kn' b1 b2 b3 b4 b5 b6 b7 b8, wq_I c' n' t' kn' b2 b3 b4 b6 b8 → wq_nx w n n' → (w < 29 → t' = t) → (29 ≤ w → nI t' = x &&& 255) → post (nI c', nI n', nI t', kn', b1, b2, b3, b4, b5, b6, b7, b8)) :
    wpL_call post (nI c, nI n, nI t, kn, a1, a2, a3, a4, a5, a6, a7, a8) (nI w) x := by
  have hG := hI.1
  have hn : n ≤ 6 := hG.2.1
  obtain ⟨a, ha, ea⟩ := pk_andE x (m := 7) 3 (by decide)
  obtain ⟨b, hb, eb⟩ := pk_andE (x >>> ((3 : Int32) &&& 31)) (m := 7) 3 (by decide)
  obtain ⟨l, hl, el⟩ := pk_andE (x >>> ((6 : Int32) &&& 31)) (m := 1) 1 (by decide)
  obtain ⟨m, hm, em⟩ := pk_andE (x >>> ((7 : Int32) &&& 31)) (m := 7) 3 (by decide)
  obtain ⟨z, hz, ez⟩ := pk_andE (x >>> ((7 : Int32) &&& 31)) (m := 255) 8 (by decide)
  obtain ⟨s, hs, es⟩ := pk_andE x (m := 255) 8 (by decide)
  replace ha : a < 8 := ha
  replace hb : b < 8 := hb
  replace hl : l < 2 := hl
  replace hm : m < 8 := hm
  replace hz : z < 256 := hz
  replace hs : s < 256 := hs
  unfold wpL_call
  dsimp only
  rw [ea, eb, el, em, ez, es]
  refine nm_e (nm_e (nm_e ?_))
  have S : ¬ (17 ≤ w ∧ w < 26 ∧ n < 6) → ¬ (26 ≤ w ∧ w < 29 ∧ 0 < n) → w < 29 → post (nI c, nI n, nI t, kn, a1, a2, a3, a4, a5, a6, a7, a8) :=
    fun h1 h2 h3 => H c n t kn a1 a2 a3 a4 a5 a6 a7 a8 hI (Or.inr (Or.inr ⟨rfl, h1, h2⟩)) (fun _ => rfl) (fun z => absurd z (by omega))
  have A : ∀ y, 17 ≤ w → w < 26 → y ≤ 9 → (b ≤ 3 → y ≤ 2) → wL_call_124 post (nI y) (nI b) (nI c) (nI n) (nI t) kn a1 a2 a3 a4 a5 a6 a7 a8 := by
    intro y h1 h2 hy hy2
    unfold wL_call_124
    refine wq_add hn hb hy hy2 (fun e => S (by omega) (by omega) (by omega)) (fun h6 b5 => ?_)
    exact H c (n + 1) t 0 a1 a2 a3 _ b5 a6 a7 a8 ⟨⟨hG.1, h6, hG.2.2⟩, fun z => absurd rfl z⟩ (Or.inl ⟨h1, h2, h6, rfl⟩) (fun _ => rfl) (fun z => absurd z (by omega))
  refine pk_le 13 w (fun h13 => pk_le 15 w (fun h15 => pk_le 17 w (fun h17 => pk_le 26 w (fun h26 => pk_le 29 w (fun h29 => ?_) (fun n29 => ?_)) (fun n26 => nm_e (pk_eq b 4 (fun e => ?_) (fun e => ⟨by decide, ?_⟩)))) (fun n17 => ?_)) (fun n15 => ?_)) (fun n13 => ?_)
  · refine wq_from hs (H c n s 0 a1 a2 a3 a4 a5 a6 a7 a8 ⟨⟨hG.1, hn, hs, hG.2.2.2⟩, fun z => absurd rfl z⟩ (Or.inr (Or.inr ⟨rfl, by omega, by omega⟩)) (fun z => absurd z (by omega)) (fun _ => ?_))
    exact es.symm
  · exact wq_drop hn (fun e => S (by omega) (by omega) n29) (fun k hk => H c k t 0 a1 a2 a3 a4 a5 a6 a7 a8 ⟨⟨hG.1, by omega, hG.2.2⟩, fun z => absurd rfl z⟩ (Or.inr (Or.inl ⟨h26, n29, by omega, hk⟩)) (fun _ => rfl) (fun z => absurd z (by omega)))
  · exact A m h17 n26 (by omega) (by omega)
  · have hr : nI z - nI z / 3 * 3 = nI (z % 3) := pk_rem (d := 3) (by omega) (by omega) (by omega)
    rw [hr]
    exact A (z % 3) h17 n26 (by omega) (by omega)
  · exact wq_mark ha (by omega) (fun b1 => H c n t 0 b1 a2 a3 a4 a5 a6 a7 a8 ⟨hG, fun z => absurd rfl z⟩ (Or.inr (Or.inr ⟨rfl, by omega, by omega⟩)) (fun _ => rfl) (fun z => absurd z (by omega)))
  · exact wq_cut ha hb hl hG (fun _ => S (by omega) (by omega) (by omega)) (fun _ c' b2 b3 hG' => H c' n t 0 a1 b2 b3 a4 a5 a6 a7 a8 ⟨hG', fun z => absurd rfl z⟩ (Or.inr (Or.inr ⟨rfl, by omega, by omega⟩)) (fun _ => rfl) (fun z => absurd z (by omega)))
  · exact wq_join ha hb hl hG (fun _ => S (by omega) (by omega) (by omega)) (fun _ c' b2 b3 hG' => H c' n t 0 a1 b2 b3 a4 a5 a6 a7 a8 ⟨hG', fun z => absurd rfl z⟩ (Or.inr (Or.inr ⟨rfl, by omega, by omega⟩)) (fun _ => rfl) (fun z => absurd z (by omega)))
end
end
section
section
variable {kn : Int32} {a1 a2 a3 a4 a5 a6 a7 a8 : Nat → Int32}
theorem wq_128 {L : Nat} {xs : Nat → Int32} {J : Int32 → Int32 → Int32 → Int32 → Int32 → Int32 → Int32 → (Nat → Int32) → (Nat → Int32) → (Nat → Int32) → (Nat → Int32) → (Nat → Int32) → (Nat → Int32) → (Nat → Int32) → (Nat → Int32) → Prop} {kc ks c n t i : Nat} (hI : wq_I c n t kn a2 a3 a4 a6 a8)
    (hJ : ∀ kn' b4 b5 b6 b7 b8, (¬ kn' = 0 → wq_K n t b4 b6 b8) → J (nI n) (nI t) (nI (i + 1)) (nI c) (nI n) (nI t) kn' a1 a2 a3 b4 b5 b6 b7 b8) :
    wL_law_128 (fun r => r = 1) L xs J (nI n) (nI i) (nI t) kc ks (nI c) (nI n) (nI t) kn a1 a2 a3 a4 a5 a6 a7 a8 := by
  have hG := hI.1
  have hn : n ≤ 6 := hG.2.1
  have ht : t < 256 := hG.2.2.1
  unfold wL_law_128
  refine wq_places hG hI.2 (fun kn' b6 b7 b8 h hk hH => br_f (by decide) (wq_stages hn ht hk hH (br_f (by decide) ?_)))
  refine pk_le 6 n (fun _ => nm_r (nI_1 i) (hJ kn' a4 a5 b6 b7 b8 (fun _ => ⟨h, hH⟩))) (fun h6 => ?_)
  refine wq_add (k := 7) (m := 0) hn (by omega) (by omega) (by omega) (fun z => absurd z (by omega)) (fun _ b5 => ?_)
  have h7 : (upd a4 n (nI 7).toInt8.toInt32) (n + 1 - 1) = 7 := by
    show (upd a4 n (nI 7).toInt8.toInt32) n = 7
    rw [pk_us]
    decide
  have hG' : wq_G c (n + 1) t a2 a3 := ⟨hG.1, h6, hG.2.2⟩
  refine pk_loop (σ := Int32 × (Nat → Int32) × (Nat → Int32) × (Nat → Int32)) (fun f v p => wL_law_164 (fun r => r = 1) L xs J (nI n) (nI t) (nI i) kc ks f (nI v) (nI c) (nI (n + 1)) (nI t) p.1 a1 a2 a3 (upd a4 n (nI 7).toInt8.toInt32) b5 p.2.1 p.2.2.1 p.2.2.2)
    (fun _ p => ¬ p.1 = 0 → wq_K (n + 1) t (upd a4 n (nI 7).toInt8.toInt32) p.2.1 p.2.2.2) 8 0 (0, b6, b7, b8) (by omega) (fun z => absurd rfl z) ?_ ?_
  · intro f p _
    refine pk_le 8 8 (fun _ => wq_drop (by omega) (fun z => absurd z (by omega)) (fun m hm => ?_)) (fun z => absurd z (by omega))
    have e : m = n := by omega
    rw [e]
    exact nm_r (nI_1 i) (hJ 0 _ b5 _ _ _ (fun z => absurd rfl z))
  · intro f v p hv hp hw
    refine pk_le 8 v (fun z => absurd z (by omega)) (fun _ => wq_at hv hG' hp (fun k' b6 b7 b8 h hk hH => ?_))
    have hR := hH.2.2.2.2 (by omega) h7 v hv
    exact pk_le (wq_R h v) 1 (fun _ => nm_r (nI_1 v) (hw (k', b6, b7, b8) (fun _ => ⟨h, hH⟩))) (fun z => absurd z (by omega))
end
/-- the law's loop, and what holds of its state (the counted steps and starts are the object's own) -/
def wq_W (L : Nat) (xs : Nat → Int32) (kc ks f i : Nat) (s : St1) : Prop := match s with
  | (ec, sz, st, kn, a1, a2, a3, a4, a5, a6, a7, a8) => wL_law_15 (fun r => r = 1) L xs kc ks f sz st (nI i) ec sz st kn a1 a2 a3 a4 a5 a6 a7 a8
def wq_Z (s : St1) : Prop := match s with
  | (ec, sz, st, kn, _, a2, a3, a4, _, a6, _, a8) => ∃ c n t, ec = nI c ∧ sz = nI n ∧ st = nI t ∧ wq_I c n t kn a2 a3 a4 a6 a8
theorem wq_step {L : Nat} {xs : Nat → Int32} {kc ks f i : Nat} (hL : L ≤ 260) (hi : i < L) {s : St1} (hs : wq_Z s) (hw : ∀ s', wq_Z s' → wq_W L xs kc ks f (i + 1) s') : wq_W L xs kc ks (f + 1) i s := by
  obtain ⟨ec, sz, st, kn, a1, a2, a3, a4, a5, a6, a7, a8⟩ := s
  obtain ⟨c, n, t, e1, e2, e3, hI⟩ := hs
  subst e1 e2 e3
  show wL_law_15 (fun r => r = 1) L xs kc ks (f + 1) (nI n) (nI t) (nI i) (nI c) (nI n) (nI t) kn a1 a2 a3 a4 a5 a6 a7 a8
  obtain ⟨w, hw5, ew⟩ := pk_andE (xs i) (m := 31) 5 (by decide)
  replace hw5 : w < 32 := hw5
  refine pk_le L i (fun z => absurd z (by omega)) (fun _ => ⟨pk_in i L hi, ?_⟩)
  rw [nI_clamp (by omega), ew]
  refine nm_e ⟨pk_in i L hi, nm_e (wq_call hI hw5 (fun c' n' t' kn' b1 b2 b3 b4 b5 b6 b7 b8 hI' hn' ht1 ht2 => ?_))⟩
  have K128 : wL_law_128 (fun r => r = 1) L xs (wL_law_15 (fun r => r = 1) L xs kc ks f) (nI n') (nI i) (nI t') kc ks (nI c') (nI n') (nI t') kn' b1 b2 b3 b4 b5 b6 b7 b8 :=
    wq_128 hI' (fun k' d4 d5 d6 d7 d8 hK => hw (nI c', nI n', nI t', k', b1, b2, b3, d4, d5, d6, d7, d8) ⟨c', n', t', rfl, rfl, rfl, hI'.1, hK⟩)
  have K110 : ∀ y, y = nI n' → wL_law_110 (fun r => r = 1) L xs (wL_law_15 (fun r => r = 1) L xs kc ks f) (nI t) (nI i) (nI w) (xs i >>> ((5 : Int32) &&& 31)) y kc ks (nI c') (nI n') (nI t') kn' b1 b2 b3 b4 b5 b6 b7 b8 := by
    intro y hy
    subst hy
    unfold wL_law_110
    refine pk_lt w 29 (fun z => ?_) (fun z => ?_)
    · rw [← ht1 z]
      exact K128
    · rw [← ht2 z]
      exact K128
  have K109 : n' = n → wL_law_109 (fun r => r = 1) L xs (wL_law_15 (fun r => r = 1) L xs kc ks f) (nI n) (nI t) (nI i) (nI w) (xs i >>> ((5 : Int32) &&& 31)) kc ks (nI c') (nI n') (nI t') kn' b1 b2 b3 b4 b5 b6 b7 b8 :=
    fun e => K110 (nI n) (by rw [e])
  have hn6 : n ≤ 6 := hI.1.2.1
  unfold wq_nx at hn'
  have K85 : ¬ (17 ≤ w ∧ w < 26 ∧ n < 6) → wL_law_85 (fun r => r = 1) L xs (wL_law_15 (fun r => r = 1) L xs kc ks f) (nI n) (nI t) (nI i) (nI w) (xs i >>> ((5 : Int32) &&& 31)) kc ks (nI c') (nI n') (nI t') kn' b1 b2 b3 b4 b5 b6 b7 b8 := by
    intro hx
    unfold wL_law_85
    refine pk_lt w 26 (fun z => K109 (by omega)) (fun z => pk_le 29 w (fun z2 => K109 (by omega)) (fun z2 => pk_le n 0 (fun z3 => K109 (by omega)) (fun z3 => K110 _ ?_)))
    have e : n' = n - 1 := by omega
    rw [e]
    exact pk_sub (b := 1) (by omega)
  have K65 : ¬ (17 ≤ w ∧ w < 26 ∧ n < 6) → wL_law_65 (fun r => r = 1) L xs (wL_law_15 (fun r => r = 1) L xs kc ks f) (nI n) (nI t) (nI i) (nI w) (xs i >>> ((5 : Int32) &&& 31)) kc ks (nI c') (nI n') (nI t') kn' b1 b2 b3 b4 b5 b6 b7 b8 := by
    intro hx
    unfold wL_law_65 wL_law_66
    exact br_t rfl (K85 hx)
  refine pk_lt w 17 (fun z => K65 (by omega)) (fun z => pk_le 26 w (fun z2 => K65 (by omega)) (fun z2 => ?_))
  unfold wL_law_66
  refine br_f (by decide) (pk_le 6 n (fun z3 => K85 (by omega)) (fun z3 => K110 _ ?_))
  have e : n' = n + 1 := by omega
  rw [e]
  exact nI_1 n
theorem wq_b0 (w : Nat) : wq_b 0 w = 0 := by
  unfold wq_b
  rw [Nat.zero_div]
theorem wq_Z0 : wq_Z (0, 0, 0, 0, (fun _ => 0), (fun _ => 0), (fun _ => 0), (fun _ => 0), (fun _ => 0), (fun _ => 0), (fun _ => 0), (fun _ => 0)) := by
  refine ⟨0, 0, 0, rfl, rfl, rfl, ⟨by omega, by omega, by omega, fun _ => 0, fun _ => 0, fun j _ => ⟨rfl, show 0 < 256 by omega⟩, fun j _ => ⟨rfl, show 0 < 256 by omega⟩, fun l a b _ _ _ => ?_, by decide, by decide⟩, fun z => absurd rfl z⟩
  rw [wq_b0, wq_b0]
theorem i_vc (xs : Nat → Int32) (L : Nat) (hL : L ≤ 260) : wpL_law (fun r => r = 1) L xs := by
  unfold wpL_law
  refine ⟨8, 187, by omega, by omega, ?_⟩
  unfold wpX_init
  refine ⟨by omega, by omega, by omega, by omega, by omega, by omega, by omega, by omega, by omega, by omega, by omega, by omega, by omega, by omega, by omega, by omega, ?_⟩
  exact pk_loop (fun f i s => wq_W L xs (1 + 8) (12 + 187) f i s) (fun _ s => wq_Z s) L 0 _ (by omega) wq_Z0
    (fun f s _ => by
      obtain ⟨ec, sz, st, kn, a1, a2, a3, a4, a5, a6, a7, a8⟩ := s
      show wL_law_15 (fun r => r = 1) L xs (1 + 8) (12 + 187) (f + 1) sz st (nI L) ec sz st kn a1 a2 a3 a4 a5 a6 a7 a8
      exact pk_le L L (fun _ => rfl) (fun z => absurd z (by omega)))
    (fun f i s hi hs hw => wq_step hL hi hs hw)
end
