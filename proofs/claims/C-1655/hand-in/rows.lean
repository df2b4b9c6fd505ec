section
theorem pk_us {f : Nat → Int32} {k : Nat} {x : Int32} : upd f k x k = x := if_pos rfl
theorem pk_un {f : Nat → Int32} {k j : Nat} {x : Int32} (h : j ≠ k) : upd f k x j = f j := if_neg h
theorem pk_sub {a b : Nat} (h : b ≤ a) : nI a - nI b = nI (a - b) := by
  obtain ⟨c, rfl⟩ : ∃ c, a = c + b := ⟨a - b, by omega⟩
  rw [← nI_add, Int32.add_sub_cancel, Nat.add_sub_cancel]
theorem pk_mul (a b : Nat) : nI a * nI b = nI (a * b) := (Int32.ofNat_mul a b).symm
theorem pk_div {a d : Nat} (ha : a < 2 ^ 31) (h0 : 0 < d) (hd : d < 2 ^ 31) : nI a / nI d = nI (a / d) := by
  apply Int32.toInt_inj.mp
  rw [lg_idiv_nonneg (by rw [nI_toInt ha]; omega) (by rw [nI_toInt hd]; omega), nI_toInt ha, nI_toInt hd, nI_toInt (Nat.lt_of_le_of_lt (Nat.div_le_self a d) ha)]
  first | rfl | exact (Int.natCast_ediv _ _).symm
theorem pk_rem {a d : Nat} (ha : a < 2 ^ 31) (h0 : 0 < d) (hd : d < 2 ^ 31) : nI a - nI a / nI d * nI d = nI (a % d) := by
  rw [pk_div ha h0 hd, pk_mul, pk_sub (Nat.div_mul_le_self a d)]
  exact congrArg nI (by have := Nat.div_add_mod' a d; omega)
theorem pk_le {x y : Int32} {A B : Prop} (a b : Nat) (f : a ≤ b → A) (g : b < a → B) (hx : x = nI a := by rfl) (hy : y = nI b := by rfl) (ha : a < 2 ^ 31 := by omega) (hb : b < 2 ^ 31 := by omega) : (x ≤ y → A) ∧ (¬ x ≤ y → B) := by
  subst hx hy
  rw [nI_leI ha hb]
  exact ⟨f, fun z => g (by omega)⟩
theorem pk_lt {x y : Int32} {A B : Prop} (a b : Nat) (f : a < b → A) (g : b ≤ a → B) (hx : x = nI a := by rfl) (hy : y = nI b := by rfl) (ha : a < 2 ^ 31 := by omega) (hb : b < 2 ^ 31 := by omega) : (x < y → A) ∧ (¬ x < y → B) := by
  subst hx hy
  rw [nI_ltI ha hb]
  exact ⟨f, fun z => g (by omega)⟩
theorem pk_eq {x y : Int32} {A B : Prop} (a b : Nat) (f : a = b → A) (g : a ≠ b → B) (hx : x = nI a := by rfl) (hy : y = nI b := by rfl) (ha : a < 2 ^ 31 := by omega) (hb : b < 2 ^ 31 := by omega) : (x = y → A) ∧ (¬ x = y → B) := by
  subst hx hy
  rw [nI_eq ha hb]
  exact ⟨f, g⟩
theorem pk_in {x : Int32} (n N : Nat) (h : n < N) (hx : x = nI n := by rfl) (hN : N < 2 ^ 31 := by omega) : vp_in x N := by
  subst hx
  exact vp_in_nI h hN
theorem pk_cl {x : Int32} (n : Nat) (hx : x = nI n := by rfl) (h : n < 2 ^ 31 := by omega) : x.toNatClampNeg = n := by
  subst hx
  exact nI_clamp h
theorem pk_tn {n : Nat} (h : n < 2 ^ 32) : (nI n).toBitVec.toNat = n := Nat.mod_eq_of_lt h
theorem pk_and (x : Int32) {m : Int32} (k : Nat) (hm : m.toBitVec.toNat = 2 ^ k - 1) : x &&& m = nI (x.toBitVec.toNat % 2 ^ k) := by
  apply Int32.toBitVec_inj.mp
  apply BitVec.eq_of_toNat_eq
  rw [Int32.toBitVec_and, BitVec.toNat_and, hm, Nat.and_two_pow_sub_one_eq_mod]
  show _ = (BitVec.ofNat 32 _).toNat
  rw [BitVec.toNat_ofNat]
  exact (Nat.mod_eq_of_lt (Nat.lt_of_le_of_lt (Nat.mod_le _ _) x.toBitVec.isLt)).symm
theorem pk_andN {n : Nat} (h : n < 2 ^ 32) {m : Int32} (k : Nat) (hm : m.toBitVec.toNat = 2 ^ k - 1) : nI n &&& m = nI (n % 2 ^ k) := by
  rw [pk_and _ k hm, pk_tn h]
theorem pk_andE (x : Int32) {m : Int32} (k : Nat) (hm : m.toBitVec.toNat = 2 ^ k - 1) : ∃ j : Nat, j < 2 ^ k ∧ x &&& m = nI j := ⟨_, Nat.mod_lt _ (Nat.two_pow_pos k), pk_and x k hm⟩
theorem pk_shl (a s : Int32) (k : Nat) (hs : (s.toBitVec.smod 32).toNat = k) : (a <<< s).toBitVec.toNat = a.toBitVec.toNat * 2 ^ k % 2 ^ 32 := by
  show (a.toBitVec <<< (s.toBitVec.smod 32).toNat).toNat = _
  rw [hs, BitVec.toNat_shiftLeft, Nat.shiftLeft_eq]
theorem pk_shlN {n : Nat} (s : Int32) (k : Nat) (hs : (s.toBitVec.smod 32).toNat = k) (h : n * 2 ^ k < 2 ^ 32) : nI n <<< s = nI (n * 2 ^ k) := by
  apply Int32.toBitVec_inj.mp
  apply BitVec.eq_of_toNat_eq
  have hn : n < 2 ^ 32 := Nat.lt_of_le_of_lt (Nat.le_mul_of_pos_right n (Nat.two_pow_pos k)) h
  rw [pk_shl _ _ k hs, pk_tn hn, pk_tn h, Nat.mod_eq_of_lt h]
theorem pk_shr (a s : Int32) (k : Nat) (hs : (s.toBitVec.smod 32).toNat = k) : (a >>> s).toInt = a.toInt >>> k := by
  show (a.toBitVec.sshiftRight (s.toBitVec.smod 32).toNat).toInt = _
  rw [hs, BitVec.toInt_sshiftRight]
  rfl
theorem pk_shrN {n : Nat} (h : n < 2 ^ 31) (s : Int32) (k : Nat) (hs : (s.toBitVec.smod 32).toNat = k) : nI n >>> s = nI (n / 2 ^ k) := by
  apply Int32.toInt_inj.mp
  have h2 : n / 2 ^ k ≤ n := Nat.div_le_self _ _
  rw [pk_shr _ _ k hs, nI_toInt h, nI_toInt (by omega), Int.shiftRight_eq_div_pow]
  rfl
theorem pk_vb (z : Int32) : vp_nar .byte z.toInt8.toInt32 = z.toInt8.toInt32 := by rw [vp_nar_byte]; simp
theorem pk_vs (z : Int32) : vp_nar .short z.toInt16.toInt32 = z.toInt16.toInt32 := by rw [vp_nar_short]; simp
theorem s_l : ∀ n, n < 32 → ((nI n &&& 31).toBitVec.smod 32).toNat = n := by decide +kernel
theorem nx_xor (a b : Nat) : nI a ^^^ nI b = nI (a ^^^ b) := by
  apply Int32.toBitVec_inj.1
  show BitVec.ofNat 32 a ^^^ BitVec.ofNat 32 b = BitVec.ofNat 32 (a ^^^ b)
  apply BitVec.eq_of_getLsbD_eq
  intro i hi
  simp [hi]
end
section
/-- the sum of f over the numbers below n -/
def wk_s (f : Nat → Nat) : Nat → Nat
  | 0 => 0
  | n + 1 => wk_s f n + f n
theorem wk_cg {f g : Nat → Nat} : ∀ {n : Nat}, (∀ i, i < n → f i = g i) → wk_s f n = wk_s g n := by
  intro n
  induction n with
  | zero => intro _; rfl
  | succ n ih =>
    intro h
    show wk_s f n + f n = wk_s g n + g n
    rw [ih (fun i hi => h i (by omega)), h n (by omega)]
theorem wk_z {f : Nat → Nat} : ∀ {n : Nat}, (∀ i, i < n → f i = 0) → wk_s f n = 0 := by
  intro n
  induction n with
  | zero => intro _; rfl
  | succ n ih =>
    intro h
    show wk_s f n + f n = 0
    rw [ih (fun i hi => h i (by omega)), h n (by omega)]
theorem wk_ad (f g : Nat → Nat) : ∀ n : Nat, wk_s (fun i => f i + g i) n = wk_s f n + wk_s g n := by
  intro n
  induction n with
  | zero => rfl
  | succ n ih =>
    show wk_s (fun i => f i + g i) n + (f n + g n) = (wk_s f n + f n) + (wk_s g n + g n)
    rw [ih]; omega
theorem wk_ml (c : Nat) (f : Nat → Nat) : ∀ n : Nat, wk_s (fun i => c * f i) n = c * wk_s f n := by
  intro n
  induction n with
  | zero => rfl
  | succ n ih =>
    show wk_s (fun i => c * f i) n + c * f n = c * (wk_s f n + f n)
    rw [ih, Nat.mul_add]
theorem wk_mr (c : Nat) (f : Nat → Nat) : ∀ n : Nat, wk_s (fun i => f i * c) n = wk_s f n * c := by
  intro n
  induction n with
  | zero => show 0 = 0 * c; rw [Nat.zero_mul]
  | succ n ih =>
    show wk_s (fun i => f i * c) n + f n * c = (wk_s f n + f n) * c
    rw [ih, Nat.add_mul]
theorem wk_cm (f : Nat → Nat → Nat) (m : Nat) : ∀ n : Nat, wk_s (fun i => wk_s (fun j => f i j) m) n = wk_s (fun j => wk_s (fun i => f i j) n) m := by
  intro n
  induction n with
  | zero => exact (wk_z (fun _ _ => rfl)).symm
  | succ n ih =>
    show wk_s (fun i => wk_s (fun j => f i j) m) n + wk_s (fun j => f n j) m = _
    rw [ih]
    exact (wk_ad (fun j => wk_s (fun i => f i j) n) (fun j => f n j) m).symm
theorem wk_le {f g : Nat → Nat} : ∀ {n : Nat}, (∀ i, i < n → f i ≤ g i) → wk_s f n ≤ wk_s g n := by
  intro n
  induction n with
  | zero => intro _; exact Nat.le_refl _
  | succ n ih =>
    intro h
    show wk_s f n + f n ≤ wk_s g n + g n
    exact Nat.add_le_add (ih (fun i hi => h i (by omega))) (h n (by omega))
theorem wk_cst (c : Nat) : ∀ n : Nat, wk_s (fun _ => c) n = n * c := by
  intro n
  induction n with
  | zero => show 0 = 0 * c; rw [Nat.zero_mul]
  | succ n ih =>
    show wk_s (fun _ => c) n + c = (n + 1) * c
    rw [ih, Nat.add_mul, Nat.one_mul]
theorem wk_mem {f : Nat → Nat} : ∀ {n i : Nat}, i < n → f i ≤ wk_s f n := by
  intro n
  induction n with
  | zero => intro i hi; omega
  | succ n ih =>
    intro i hi
    show f i ≤ wk_s f n + f n
    by_cases h : i = n
    · subst h; omega
    · have := ih (i := i) (by omega); omega
theorem wk_one {f : Nat → Nat} : ∀ {n i : Nat}, i < n → (∀ j, j < n → j ≠ i → f j = 0) → wk_s f n = f i := by
  intro n
  induction n with
  | zero => intro i hi; omega
  | succ n ih =>
    intro i hi h
    show wk_s f n + f n = f i
    by_cases e : i = n
    · subst e
      rw [wk_z (fun j hj => h j (by omega) (by omega)), Nat.zero_add]
    · rw [ih (i := i) (by omega) (fun j hj hne => h j (by omega) hne), h n (by omega) (by omega), Nat.add_zero]
theorem wk_eq0 {f : Nat → Nat} {n : Nat} (h : wk_s f n = 0) : ∀ i, i < n → f i = 0 := by
  intro i hi
  have := wk_mem (f := f) hi
  omega
theorem wk_app (f : Nat → Nat) (n : Nat) : ∀ m : Nat, wk_s f (n + m) = wk_s f n + wk_s (fun i => f (n + i)) m := by
  intro m
  induction m with
  | zero => rfl
  | succ m ih =>
    show wk_s f (n + m) + f (n + m) = wk_s f n + (wk_s (fun i => f (n + i)) m + f (n + m))
    rw [ih]; omega
theorem wk_8 (f : Nat → Nat) : ∀ n : Nat, wk_s f (8 * n) = wk_s (fun a => wk_s (fun b => f (8 * a + b)) 8) n := by
  intro n
  induction n with
  | zero => rfl
  | succ n ih =>
    show wk_s f (8 * n + 8) = wk_s (fun a => wk_s (fun b => f (8 * a + b)) 8) n + wk_s (fun b => f (8 * n + b)) 8
    rw [wk_app, ih]
/-- a sum of ones and zeros over all numbers below n changes at one place -/
theorem wk_upd {f g : Nat → Nat} {n i : Nat} (hi : i < n) (h : ∀ j, j < n → j ≠ i → f j = g j) : wk_s f n + g i = wk_s g n + f i := by
  induction n with
  | zero => omega
  | succ n ih =>
    show wk_s f n + f n + g i = wk_s g n + g n + f i
    by_cases e : i = n
    · subst e
      rw [wk_cg (fun j hj => h j (by omega) (by omega))]; omega
    · have := ih (by omega) (fun j hj hne => h j (by omega) hne)
      have := h n (by omega) (by omega)
      omega
/-- the cells of the component: vertex w, start s at w * 8 + s -/
def wk_X (h : Nat → Int32) (M : Nat → Nat → Nat) : Prop := ∀ s w, s < 8 → w < 8 → h (w * 8 + s) = nI (M s w)
/-- the cells of the reference: start s, vertex w at 8 * s + w -/
def wk_Y (h : Nat → Int32) (M : Nat → Nat → Nat) : Prop := ∀ s w, s < 8 → w < 8 → h (8 * s + w) = nI (M s w)
theorem wk_Xc {h : Nat → Int32} {M N : Nat → Nat → Nat} (a : wk_X h M) (e : ∀ s w, s < 8 → w < 8 → M s w = N s w) : wk_X h N :=
  fun s w hs hw => (a s w hs hw).trans (congrArg nI (e s w hs hw))
theorem wk_Yc {h : Nat → Int32} {M N : Nat → Nat → Nat} (a : wk_Y h M) (e : ∀ s w, s < 8 → w < 8 → M s w = N s w) : wk_Y h N :=
  fun s w hs hw => (a s w hs hw).trans (congrArg nI (e s w hs hw))
theorem wk_Xu {h : Nat → Int32} {M N : Nat → Nat → Nat} {s w i : Nat} {x : Int32} (a : wk_X h M) (hs : s < 8) (hw : w < 8) (hi : i = w * 8 + s) (hx : x = nI (N s w)) (e : ∀ t y, t < 8 → y < 8 → ¬ (t = s ∧ y = w) → N t y = M t y) : wk_X (upd h i x) N := by
  intro t y ht hy
  by_cases z : t = s ∧ y = w
  · obtain ⟨rfl, rfl⟩ := z
    rw [hi, pk_us, hx]
  · rw [pk_un (by omega), e t y ht hy z]
    exact a t y ht hy
theorem wk_Yu {h : Nat → Int32} {M N : Nat → Nat → Nat} {s w i : Nat} {x : Int32} (a : wk_Y h M) (hs : s < 8) (hw : w < 8) (hi : i = 8 * s + w) (hx : x = nI (N s w)) (e : ∀ t y, t < 8 → y < 8 → ¬ (t = s ∧ y = w) → N t y = M t y) : wk_Y (upd h i x) N := by
  intro t y ht hy
  by_cases z : t = s ∧ y = w
  · obtain ⟨rfl, rfl⟩ := z
    rw [hi, pk_us, hx]
  · rw [pk_un (by omega), e t y ht hy z]
    exact a t y ht hy
theorem wk_Xj {h : Nat → Int32} {M : Nat → Nat → Nat} (a : wk_X h M) {j : Nat} (hj : j < 64) : h j = nI (M (j % 8) (j / 8)) := by
  have := a (j % 8) (j / 8) (by omega) (by omega)
  rwa [show j / 8 * 8 + j % 8 = j from by omega] at this
theorem wk_Yj {h : Nat → Int32} {M : Nat → Nat → Nat} (a : wk_Y h M) {j : Nat} (hj : j < 64) : h j = nI (M (j / 8) (j % 8)) := by
  have := a (j / 8) (j % 8) (by omega) (by omega)
  rwa [show 8 * (j / 8) + j % 8 = j from by omega] at this
theorem wk_nx (v s : Nat) : nI v * 8 + nI s = nI (v * 8 + s) := by
  rw [show (8 : Int32) = nI 8 from rfl, pk_mul, nI_add]
theorem wk_ny (s v : Nat) : 8 * nI s + nI v = nI (8 * s + v) := by
  rw [show (8 : Int32) = nI 8 from rfl, pk_mul, nI_add]
theorem wk_cx {v s : Nat} (hv : v < 8) (hs : s < 8) : (nI v * 8 + nI s).toNatClampNeg = v * 8 + s := by
  rw [wk_nx, nI_clamp (by omega)]
theorem wk_cy {s v : Nat} (hs : s < 8) (hv : v < 8) : (8 * nI s + nI v).toNatClampNeg = 8 * s + v := by
  rw [wk_ny, nI_clamp (by omega)]
theorem wk_ix {v s N : Nat} (h : v * 8 + s < N) (hN : N < 2 ^ 31) : vp_in (nI v * 8 + nI s) N := by
  rw [wk_nx]; exact vp_in_nI h hN
theorem wk_iy {s v N : Nat} (h : 8 * s + v < N) (hN : N < 2 ^ 31) : vp_in (8 * nI s + nI v) N := by
  rw [wk_ny]; exact vp_in_nI h hN
theorem wk_d8 {a : Nat} (h : a < 64) : nI a / 8 = nI (a / 8) := pk_div (d := 8) (by omega) (by decide) (by decide)
theorem wk_r8 {a : Nat} (h : a < 64) : nI a - nI a / 8 * 8 = nI (a % 8) := pk_rem (d := 8) (by omega) (by decide) (by decide)
theorem wk_n8 : ¬ (8 : Int32) = 0 := by decide
/-- bit w of x, as the component asks it -/
def wk_b (x : Int32) (w : Nat) : Nat := if ((x >>> (nI w &&& 31)) &&& 1) = 0 then 0 else 1
theorem wk_b0 {x : Int32} {w : Nat} (h : ((x >>> (nI w &&& 31)) &&& 1) = 0) : wk_b x w = 0 := if_pos h
theorem wk_b1 {x : Int32} {w : Nat} (h : ¬ ((x >>> (nI w &&& 31)) &&& 1) = 0) : wk_b x w = 1 := if_neg h
theorem wk_ble (x : Int32) (w : Nat) : wk_b x w ≤ 1 := by
  unfold wk_b; split <;> decide
theorem wk_bq {q w : Nat} (hq : q < 256) (hw : w < 32) : wk_b (nI q) w = (q.testBit w).toNat := by
  have e : (nI q >>> (nI w &&& 31)) &&& 1 = nI (q / 2 ^ w % 2) := by
    rw [pk_shrN (by omega) _ w (s_l w hw)]
    exact pk_andN (Nat.lt_of_le_of_lt (Nat.div_le_self _ _) (by omega)) 1 (by decide)
  have t : (q.testBit w).toNat = q / 2 ^ w % 2 := Nat.toNat_testBit q w
  unfold wk_b
  rw [e, t]
  rcases Nat.mod_two_eq_zero_or_one (q / 2 ^ w) with h | h
  · rw [h]; rfl
  · rw [h]; rfl
theorem wk_bz {w : Nat} (hw : w < 8) : wk_b 0 w = 0 := by
  have := wk_bq (q := 0) (w := w) (by decide) (by omega)
  rw [Nat.zero_testBit] at this
  exact this
theorem wk_b1e (x : Int32) (w : Nat) : ((x >>> (nI w &&& 31)) &&& 1) = 1 ↔ ¬ ((x >>> (nI w &&& 31)) &&& 1) = 0 := by
  obtain ⟨j, hj, e⟩ := pk_andE (x >>> (nI w &&& 31)) (m := 1) 1 (by decide)
  rw [e]
  have : j = 0 ∨ j = 1 := by omega
  rcases this with rfl | rfl <;> decide
end
section
/-- the ways of label l from v to x -/
def wk_g1 (κ n : Int32) (ow iw : Nat → Int32) (v x l : Nat) : Nat :=
  if n = 2 ∨ n = nI l then (if κ = 1 then 0 else wk_b (ow (l * 8 + v)) x) + (if κ = 1 ∨ κ = 2 then wk_b (iw (l * 8 + v)) x else 0) else 0
/-- whether a walker of v stays at x since it has no way -/
def wk_g0 (κ n : Int32) (ow : Nat → Int32) (v x : Nat) : Nat :=
  if κ = 3 ∧ (n = 1 ∨ ow v = 0) ∧ (n = 0 ∨ ow (8 + v) = 0) ∧ x = v then 1 else 0
def wk_G (κ n : Int32) (ow iw : Nat → Int32) (v x : Nat) : Nat := wk_s (wk_g1 κ n ow iw v x) 2 + wk_g0 κ n ow v x
def wk_K (M : Nat → Nat → Nat) (s w : Nat) : Nat := if 0 < M s w ∧ wk_s (fun r => M r w) s = 0 then 1 else 0
def wk_F (κ n : Int32) (mk : Nat → Int32) (M : Nat → Nat → Nat) (s w : Nat) : Nat :=
  if κ = 4 then (if mk w < n then 0 else M s w) else if κ = 5 then (if s = w then 0 else M s w) else (if s = w then M s w else 0)
/-- one step of the plan: M s w walkers with start s at vertex w -/
def wk_S (κ n : Int32) (mk ow iw : Nat → Int32) (M : Nat → Nat → Nat) (s w : Nat) : Nat :=
  if 3 < κ then (if κ = 7 then wk_K M s w else wk_F κ n mk M s w) else wk_s (fun v => wk_G κ n ow iw v w * M s v) 8
/-- the walkers after k steps -/
def wk_C (st : Int32) (mk ow iw kd lb : Nat → Int32) : Nat → Nat → Nat → Nat
  | 0 => fun s w => if s = w then wk_b st s else 0
  | k + 1 => wk_S (kd k) (lb k) mk ow iw (wk_C st mk ow iw kd lb k)
def wk_A (M : Nat → Nat → Nat) (w : Nat) : Nat := wk_s (fun s => M s w) 8
def wk_T (M : Nat → Nat → Nat) : Nat := wk_s (fun w => wk_s (fun s => M s w) 8) 8
theorem wk_g1le (κ n : Int32) (ow iw : Nat → Int32) (v x l : Nat) : wk_g1 κ n ow iw v x l ≤ 2 ∧ (κ = 3 → wk_g1 κ n ow iw v x l ≤ 1) := by
  have a := wk_ble (ow (l * 8 + v)) x
  have b := wk_ble (iw (l * 8 + v)) x
  unfold wk_g1
  refine ⟨?_, fun h => ?_⟩
  · split
    · split <;> split <;> omega
    · omega
  · have h1 : ¬ κ = 1 := by rw [h]; decide
    have h2 : ¬ κ = 2 := by rw [h]; decide
    rw [if_neg h1, if_neg (c := κ = 1 ∨ κ = 2) (fun z => z.elim h1 h2)]
    split <;> omega
theorem wk_Gle (κ n : Int32) (ow iw : Nat → Int32) (v x : Nat) : wk_G κ n ow iw v x ≤ 4 := by
  have a := wk_g1le κ n ow iw v x 0
  have b := wk_g1le κ n ow iw v x 1
  have e : wk_G κ n ow iw v x = 0 + wk_g1 κ n ow iw v x 0 + wk_g1 κ n ow iw v x 1 + wk_g0 κ n ow v x := rfl
  rw [e]
  unfold wk_g0
  by_cases h : κ = 3
  · have a2 := a.2 h
    have b2 := b.2 h
    split <;> omega
  · rw [if_neg (fun z => h z.1)]
    omega
theorem wk_Kle (M : Nat → Nat → Nat) (s w : Nat) : wk_K M s w ≤ M s w := by
  unfold wk_K
  split
  · rename_i h; exact h.1
  · exact Nat.zero_le _
theorem wk_Fle (κ n : Int32) (mk : Nat → Int32) (M : Nat → Nat → Nat) (s w : Nat) : wk_F κ n mk M s w ≤ M s w := by
  unfold wk_F
  split
  · split <;> omega
  · split
    · split <;> omega
    · split <;> omega
theorem wk_Sle {κ n : Int32} {mk ow iw : Nat → Int32} {M : Nat → Nat → Nat} {B : Nat} (h : ∀ v, v < 8 → wk_A M v ≤ B) (w : Nat) (hw : w < 8) : wk_A (wk_S κ n mk ow iw M) w ≤ 32 * B := by
  have hB := h w hw
  by_cases h3 : 3 < κ
  · have z : wk_A (wk_S κ n mk ow iw M) w ≤ wk_A M w := by
      refine wk_le fun s _ => ?_
      show wk_S κ n mk ow iw M s w ≤ M s w
      unfold wk_S
      rw [if_pos h3]
      split
      · exact wk_Kle M s w
      · exact wk_Fle κ n mk M s w
    omega
  · have e : wk_A (wk_S κ n mk ow iw M) w = wk_s (fun v => wk_G κ n ow iw v w * wk_A M v) 8 := by
      have e1 : wk_A (wk_S κ n mk ow iw M) w = wk_s (fun s => wk_s (fun v => wk_G κ n ow iw v w * M s v) 8) 8 := by
        refine wk_cg fun s _ => ?_
        show wk_S κ n mk ow iw M s w = _
        unfold wk_S
        rw [if_neg h3]
      rw [e1, wk_cm (fun s v => wk_G κ n ow iw v w * M s v) 8 8]
      exact wk_cg fun v _ => wk_ml _ _ _
    rw [e]
    refine Nat.le_trans (wk_le (g := fun _ => 4 * B) fun v hv => Nat.mul_le_mul (wk_Gle κ n ow iw v w) (h v hv)) ?_
    rw [wk_cst]
    omega
theorem wk_Cle (st : Int32) (mk ow iw kd lb : Nat → Int32) : ∀ k w, w < 8 → wk_A (wk_C st mk ow iw kd lb k) w ≤ 32 ^ k := by
  intro k
  induction k with
  | zero =>
    intro w hw
    show wk_s (fun s => if s = w then wk_b st s else 0) 8 ≤ 1
    rw [wk_one hw (fun j _ hne => if_neg hne), if_pos rfl]
    exact wk_ble st w
  | succ k ih =>
    intro w hw
    have := wk_Sle (κ := kd k) (n := lb k) (mk := mk) (ow := ow) (iw := iw) ih w hw
    rw [Nat.pow_succ, Nat.mul_comm]
    exact this
theorem wk_Alt (st : Int32) (mk ow iw kd lb : Nat → Int32) {k w : Nat} (hk : k ≤ 6) (hw : w < 8) : wk_A (wk_C st mk ow iw kd lb k) w < 2 ^ 31 :=
  Nat.lt_of_le_of_lt (wk_Cle st mk ow iw kd lb k w hw) (Nat.lt_of_le_of_lt (Nat.pow_le_pow_right (by decide) hk) (by decide))
theorem wk_Clt (st : Int32) (mk ow iw kd lb : Nat → Int32) {k s w : Nat} (hk : k ≤ 6) (hs : s < 8) (hw : w < 8) : wk_C st mk ow iw kd lb k s w < 2 ^ 31 :=
  Nat.lt_of_le_of_lt (wk_mem (f := fun s => wk_C st mk ow iw kd lb k s w) hs) (wk_Alt st mk ow iw kd lb hk hw)
/-- how many edges of the reference's list are (a, b, l) -/
def wk_n (bg en la : Nat → Int32) (a b l : Int32) (n : Nat) : Nat := wk_s (fun e => if bg e = a ∧ en e = b ∧ la e = l then 1 else 0) n
/-- the edges as bits and as a list -/
def wk_E (ec : Nat) (ow iw bg en la : Nat → Int32) : Prop :=
  (∀ i, i < 16 → ∃ q, q < 256 ∧ ow i = nI q) ∧ (∀ i, i < 16 → ∃ q, q < 256 ∧ iw i = nI q) ∧
  (∀ e, e < ec → (∃ a, a < 8 ∧ bg e = nI a) ∧ (∃ b, b < 8 ∧ en e = nI b) ∧ (la e = 0 ∨ la e = 1)) ∧
  (∀ a b l, a < 8 → b < 8 → l < 2 → wk_b (ow (l * 8 + a)) b = wk_n bg en la (nI a) (nI b) (nI l) ec ∧ wk_b (iw (l * 8 + b)) a = wk_n bg en la (nI a) (nI b) (nI l) ec)
def wk_y1 (n o i : Int32) (bg en la : Nat → Int32) (v x e : Nat) : Nat :=
  (if (n = 2 ∨ la e = n) ∧ ¬ o = 0 ∧ bg e = nI v ∧ en e = nI x then 1 else 0) + (if (n = 2 ∨ la e = n) ∧ ¬ i = 0 ∧ en e = nI v ∧ bg e = nI x then 1 else 0)
def wk_y0 (n o i : Int32) (bg en la : Nat → Int32) (v e : Nat) : Nat :=
  (if (n = 2 ∨ la e = n) ∧ ¬ o = 0 ∧ bg e = nI v then 1 else 0) + (if (n = 2 ∨ la e = n) ∧ ¬ i = 0 ∧ en e = nI v then 1 else 0)
theorem wk_lab (n : Int32) (la : Nat → Int32) (q : Nat → Nat) : ∀ ec : Nat, (∀ e, e < ec → la e = 0 ∨ la e = 1) →
    wk_s (fun e => if n = 2 ∨ la e = n then q e else 0) ec = (if n = 2 ∨ n = 0 then wk_s (fun e => if la e = 0 then q e else 0) ec else 0) + (if n = 2 ∨ n = 1 then wk_s (fun e => if la e = 1 then q e else 0) ec else 0) := by
  intro ec
  induction ec with
  | zero => intro _; show 0 = (if n = 2 ∨ n = 0 then 0 else 0) + (if n = 2 ∨ n = 1 then 0 else 0); split <;> split <;> rfl
  | succ c ih =>
    intro h
    have i := ih (fun e he => h e (by omega))
    show wk_s (fun e => if n = 2 ∨ la e = n then q e else 0) c + (if n = 2 ∨ la c = n then q c else 0) =
      (if n = 2 ∨ n = 0 then wk_s (fun e => if la e = 0 then q e else 0) c + (if la c = 0 then q c else 0) else 0) + (if n = 2 ∨ n = 1 then wk_s (fun e => if la e = 1 then q e else 0) c + (if la c = 1 then q c else 0) else 0)
    rw [i]
    have n01 : ¬ (0 : Int32) = 1 := by decide
    have n10 : ¬ (1 : Int32) = 0 := by decide
    have n02 : ¬ (0 : Int32) = 2 := by decide
    have n12 : ¬ (1 : Int32) = 2 := by decide
    rcases h c (by omega) with e | e
    · rw [e]
      by_cases h2 : n = 2
      · simp only [h2, true_or, if_true, n01, if_false]; omega
      · by_cases h0 : n = 0
        · subst h0
          simp only [n02, n01, or_true, false_or, if_true, if_false]; omega
        · have h0' : ¬ (0 : Int32) = n := fun z => h0 z.symm
          simp only [h2, h0, h0', false_or, if_false, n01, Nat.add_zero]
    · rw [e]
      by_cases h2 : n = 2
      · simp only [h2, true_or, if_true, n10, if_false]; omega
      · by_cases h1 : n = 1
        · subst h1
          simp only [n12, n10, or_true, false_or, if_true, if_false]; omega
        · have h1' : ¬ (1 : Int32) = n := fun z => h1 z.symm
          simp only [h2, h1, h1', false_or, if_false, n10, Nat.add_zero]
theorem wk_if1 {p q r : Prop} [Decidable p] [Decidable q] [Decidable r] : (if p then (if q ∧ r then 1 else 0) else 0) = (if q ∧ r ∧ p then 1 else 0 : Nat) := by
  by_cases hp : p <;> by_cases hq : q <;> by_cases hr : r <;> simp [hp, hq, hr]
theorem wk_if2 {p q r t : Prop} [Decidable p] [Decidable q] [Decidable r] [Decidable t] (h : q) : (if p ∧ q ∧ r ∧ t then 1 else 0 : Nat) = (if p then (if r ∧ t then 1 else 0) else 0) := by
  by_cases hp : p <;> by_cases hr : r <;> by_cases ht : t <;> simp [hp, hr, ht, h]
theorem wk_if3 {p q r t : Prop} [Decidable p] [Decidable q] [Decidable r] [Decidable t] (h : ¬ q) : (if p ∧ q ∧ r ∧ t then 1 else 0 : Nat) = 0 := if_neg (fun z => h z.2.1)
theorem wk_out {n o : Int32} {bg en la : Nat → Int32} {ec : Nat} (hl : ∀ e, e < ec → la e = 0 ∨ la e = 1) (a b : Int32) (ho : ¬ o = 0) :
    wk_s (fun e => if (n = 2 ∨ la e = n) ∧ ¬ o = 0 ∧ bg e = a ∧ en e = b then 1 else 0) ec = (if n = 2 ∨ n = 0 then wk_n bg en la a b 0 ec else 0) + (if n = 2 ∨ n = 1 then wk_n bg en la a b 1 ec else 0) := by
  rw [wk_cg (g := fun e => if n = 2 ∨ la e = n then (if bg e = a ∧ en e = b then 1 else 0) else 0) (fun e _ => wk_if2 ho), wk_lab n la _ ec hl]
  unfold wk_n
  rw [wk_cg (f := fun e => if la e = 0 then (if bg e = a ∧ en e = b then 1 else 0) else 0) (fun e _ => wk_if1),
    wk_cg (f := fun e => if la e = 1 then (if bg e = a ∧ en e = b then 1 else 0) else 0) (fun e _ => wk_if1)]
theorem wk_nsw (bg en la : Nat → Int32) (a b l : Int32) (n : Nat) : wk_n en bg la a b l n = wk_n bg en la b a l n := by
  refine wk_cg fun e _ => ?_
  by_cases h1 : bg e = b <;> by_cases h2 : en e = a <;> simp [h1, h2]
theorem wk_co {ec : Nat} {ow iw bg en la : Nat → Int32} (hE : wk_E ec ow iw bg en la) {κ n o i : Int32} (ho : o = if κ = 1 then 0 else 1) (hi : i = if κ = 1 ∨ κ = 2 then 1 else 0) {v x : Nat} (hv : v < 8) (hx : x < 8) :
    wk_s (wk_y1 n o i bg en la v x) ec = wk_s (wk_g1 κ n ow iw v x) 2 := by
  have hl : ∀ e, e < ec → la e = 0 ∨ la e = 1 := fun e he => (hE.2.2.1 e he).2.2
  have d0 : nI 0 = 0 := rfl
  have d1 : nI 1 = 1 := rfl
  have n10 : ¬ (1 : Int32) = 0 := by decide
  have A0 := (hE.2.2.2 v x 0 hv hx (by decide)).1
  have A1 := (hE.2.2.2 v x 1 hv hx (by decide)).1
  have B0 := (hE.2.2.2 x v 0 hx hv (by decide)).2
  have B1 := (hE.2.2.2 x v 1 hx hv (by decide)).2
  rw [d0] at A0 B0
  rw [d1] at A1 B1
  have eR : wk_s (wk_g1 κ n ow iw v x) 2 = 0 + wk_g1 κ n ow iw v x 0 + wk_g1 κ n ow iw v x 1 := rfl
  have eL : wk_s (wk_y1 n o i bg en la v x) ec = wk_s (fun e => if (n = 2 ∨ la e = n) ∧ ¬ o = 0 ∧ bg e = nI v ∧ en e = nI x then 1 else 0) ec + wk_s (fun e => if (n = 2 ∨ la e = n) ∧ ¬ i = 0 ∧ en e = nI v ∧ bg e = nI x then 1 else 0) ec := wk_ad _ _ _
  rw [eR, eL]
  unfold wk_g1
  rw [A0, A1, B0, B1, d0, d1]
  have hA : wk_s (fun e => if (n = 2 ∨ la e = n) ∧ ¬ o = 0 ∧ bg e = nI v ∧ en e = nI x then 1 else 0) ec =
      (if n = 2 ∨ n = 0 then (if κ = 1 then 0 else wk_n bg en la (nI v) (nI x) 0 ec) else 0) + (if n = 2 ∨ n = 1 then (if κ = 1 then 0 else wk_n bg en la (nI v) (nI x) 1 ec) else 0) := by
    by_cases h : κ = 1
    · rw [if_pos h, if_pos h]
      rw [if_pos h] at ho
      rw [wk_z (fun e _ => wk_if3 (fun z => z ho))]
      split <;> split <;> rfl
    · rw [if_neg h, if_neg h]
      rw [if_neg h] at ho
      exact wk_out (o := o) hl _ _ (by rw [ho]; exact n10)
  have hB : wk_s (fun e => if (n = 2 ∨ la e = n) ∧ ¬ i = 0 ∧ en e = nI v ∧ bg e = nI x then 1 else 0) ec =
      (if n = 2 ∨ n = 0 then (if κ = 1 ∨ κ = 2 then wk_n bg en la (nI x) (nI v) 0 ec else 0) else 0) + (if n = 2 ∨ n = 1 then (if κ = 1 ∨ κ = 2 then wk_n bg en la (nI x) (nI v) 1 ec else 0) else 0) := by
    by_cases h : κ = 1 ∨ κ = 2
    · rw [if_pos h, if_pos h]
      rw [if_pos h] at hi
      rw [← wk_nsw bg en la _ _ 0, ← wk_nsw bg en la _ _ 1]
      exact wk_out (o := i) hl _ _ (by rw [hi]; exact n10)
    · rw [if_neg h, if_neg h]
      rw [if_neg h] at hi
      rw [wk_z (fun e _ => wk_if3 (fun z => z hi))]
      split <;> split <;> rfl
  rw [hA, hB]
  by_cases c0 : n = 2 ∨ n = 0
  · by_cases c1 : n = 2 ∨ n = 1
    · rw [if_pos c0, if_pos c1, if_pos c0, if_pos c1, if_pos c0, if_pos c1]; omega
    · rw [if_pos c0, if_neg c1, if_pos c0, if_neg c1, if_pos c0, if_neg c1]; omega
  · by_cases c1 : n = 2 ∨ n = 1
    · rw [if_neg c0, if_pos c1, if_neg c0, if_pos c1, if_neg c0, if_pos c1]; omega
    · rw [if_neg c0, if_neg c1, if_neg c0, if_neg c1, if_neg c0, if_neg c1]
theorem wk_z8 {x : Int32} (hx : ∃ q, q < 256 ∧ x = nI q) (h : ∀ b, b < 8 → wk_b x b = 0) : x = 0 := by
  obtain ⟨q, hq, rfl⟩ := hx
  have : q = 0 := by
    apply Nat.eq_of_testBit_eq
    intro b
    rw [Nat.zero_testBit]
    by_cases hb : b < 8
    · have e := h b hb
      rw [wk_bq hq (by omega)] at e
      cases z : q.testBit b
      · rfl
      · rw [z] at e; exact absurd e (by decide)
    · exact Nat.testBit_lt_two_pow (Nat.lt_of_lt_of_le hq (Nat.pow_le_pow_right (n := 2) (i := 8) (by decide) (by omega)))
  rw [this]; rfl
theorem wk_mv {ec : Nat} {ow iw bg en la : Nat → Int32} (hE : wk_E ec ow iw bg en la) {n : Int32} (hn : n = 0 ∨ n = 1 ∨ n = 2) {v : Nat} (hv : v < 8) :
    wk_s (wk_y0 n 1 0 bg en la v) ec = 0 ↔ (n = 1 ∨ ow v = 0) ∧ (n = 0 ∨ ow (8 + v) = 0) := by
  have n10 : ¬ (1 : Int32) = 0 := by decide
  have n01 : ¬ (0 : Int32) = 1 := by decide
  have n20 : ¬ (2 : Int32) = 0 := by decide
  have n21 : ¬ (2 : Int32) = 1 := by decide
  constructor
  · intro h
    have key : ∀ l : Nat, l < 2 → (n = 2 ∨ n = nI l) → ow (l * 8 + v) = 0 := by
      intro l hl hf
      refine wk_z8 (hE.1 _ (by omega)) fun b hb => ?_
      rw [(hE.2.2.2 v b l hv hb hl).1]
      refine wk_z fun e he => ?_
      refine if_neg fun z => ?_
      have y := wk_eq0 h e he
      unfold wk_y0 at y
      rw [if_pos ⟨hf.elim Or.inl (fun t => Or.inr (z.2.2.trans t.symm)), n10, z.1⟩] at y
      omega
    refine ⟨?_, ?_⟩
    · rcases hn with rfl | rfl | rfl
      · have := key 0 (by decide) (Or.inr rfl)
        rw [Nat.zero_mul, Nat.zero_add] at this
        exact Or.inr this
      · exact Or.inl rfl
      · have := key 0 (by decide) (Or.inl rfl)
        rw [Nat.zero_mul, Nat.zero_add] at this
        exact Or.inr this
    · rcases hn with rfl | rfl | rfl
      · exact Or.inl rfl
      · exact Or.inr (key 1 (by decide) (Or.inr rfl))
      · exact Or.inr (key 1 (by decide) (Or.inl rfl))
  · intro h
    refine wk_z fun e he => ?_
    unfold wk_y0
    rw [if_neg (c := (n = 2 ∨ la e = n) ∧ ¬ (0 : Int32) = 0 ∧ en e = nI v) (fun z => z.2.1 rfl), Nat.add_zero]
    refine if_neg fun z => ?_
    obtain ⟨hf, _, hb⟩ := z
    obtain ⟨_, ⟨b, hb8, hb2⟩, hl⟩ := hE.2.2.1 e he
    have fin : ∀ l : Nat, l < 2 → la e = nI l → ow (l * 8 + v) = 0 → False := by
      intro l hl2 hle hz
      have a := (hE.2.2.2 v b l hv hb8 hl2).1
      rw [hz, wk_bz hb8] at a
      have m := wk_eq0 (f := fun e => if bg e = nI v ∧ en e = nI b ∧ la e = nI l then 1 else 0) a.symm e he
      have m2 : (if bg e = nI v ∧ en e = nI b ∧ la e = nI l then 1 else 0 : Nat) = 0 := m
      rw [if_pos ⟨hb, hb2, hle⟩] at m2
      omega
    rcases hl with e0 | e1
    · have : ¬ n = 1 := by
        rintro rfl
        rw [e0] at hf
        rcases hf with z | z
        · exact absurd z (by decide)
        · exact n01 z
      have hz := h.1.resolve_left this
      exact fin 0 (by decide) e0 (by rw [Nat.zero_mul, Nat.zero_add]; exact hz)
    · have : ¬ n = 0 := by
        rintro rfl
        rw [e1] at hf
        rcases hf with z | z
        · exact absurd z (by decide)
        · exact n10 z
      exact fin 1 (by decide) e1 (h.2.resolve_left this)
theorem wk_coG {ec : Nat} {ow iw bg en la : Nat → Int32} (hE : wk_E ec ow iw bg en la) {κ n o i : Int32} (ho : o = if κ = 1 then 0 else 1) (hi : i = if κ = 1 ∨ κ = 2 then 1 else 0) (hn : n = 0 ∨ n = 1 ∨ n = 2) {v x : Nat} (hv : v < 8) (hx : x < 8) :
    wk_s (wk_y1 n o i bg en la v x) ec + (if κ = 3 ∧ wk_s (wk_y0 n o i bg en la v) ec = 0 ∧ x = v then 1 else 0) = wk_G κ n ow iw v x := by
  rw [wk_co hE ho hi hv hx]
  unfold wk_G wk_g0
  by_cases h : κ = 3
  · have h1 : ¬ κ = 1 := by rw [h]; decide
    have h2 : ¬ κ = 2 := by rw [h]; decide
    rw [if_neg h1] at ho
    rw [if_neg (fun z => z.elim h1 h2)] at hi
    subst ho hi
    have m := wk_mv hE hn hv
    by_cases z : wk_s (wk_y0 n 1 0 bg en la v) ec = 0
    · have z2 := m.mp z
      by_cases e : x = v
      · rw [if_pos ⟨h, z, e⟩, if_pos ⟨h, z2.1, z2.2, e⟩]
      · rw [if_neg (fun t => e t.2.2), if_neg (fun t => e t.2.2.2)]
    · rw [if_neg (fun t => z t.2.1), if_neg (fun t => z (m.mpr ⟨t.2.1, t.2.2.1⟩))]
  · rw [if_neg (fun t => h t.1), if_neg (fun t => h t.1)]
end
section
section
variable {ec sz st kn : Int32} {mk ow iw kd lb he be tt : Nat → Int32}
theorem wk_le64 : (64 : Int32) ≤ nI 64 := nI_le (a := 64) (b := 64) (Nat.le_refl _) (by decide)
theorem wk_ge64 {i : Nat} (h : i < 64) : ¬ (64 : Int32) ≤ nI i := nI_ge (a := i) (b := 64) h (by decide)
theorem wk_le8 : (8 : Int32) ≤ nI 8 := nI_le (a := 8) (b := 8) (Nat.le_refl _) (by decide)
theorem wk_ge8 {i : Nat} (h : i < 8) : ¬ (8 : Int32) ≤ nI i := nI_ge (a := i) (b := 8) h (by decide)
theorem wk_le2 : (2 : Int32) ≤ nI 2 := nI_le (a := 2) (b := 2) (Nat.le_refl _) (by decide)
theorem wk_ge2 {i : Nat} (h : i < 2) : ¬ (2 : Int32) ≤ nI i := nI_ge (a := i) (b := 2) h (by decide)
theorem wk_T64x (M : Nat → Nat → Nat) : wk_s (fun j => M (j % 8) (j / 8)) 64 = wk_T M := by
  refine (wk_8 (fun j => M (j % 8) (j / 8)) 8).trans ?_
  refine wk_cg fun a _ => wk_cg fun b hb => ?_
  show M ((8 * a + b) % 8) ((8 * a + b) / 8) = M b a
  rw [show (8 * a + b) % 8 = b from by omega, show (8 * a + b) / 8 = a from by omega]
theorem xt_total {post : Int32 → Prop} {M : Nat → Nat → Nat} (h : wk_X he M) (hp : post (nI (wk_T M))) : wpX_total post (ec, sz, st, kn, mk, ow, iw, kd, lb, he, be, tt) := by
  refine loop_0 (fun n i x => wX_total_4 post ec sz st kn mk ow iw kd lb he be tt n x (nI i)) (fun i x => x = nI (wk_s (fun j => M (j % 8) (j / 8)) i)) 64 0 rfl ?_ ?_
  · intro n x hI
    refine br_t wk_le64 ?_
    rw [hI, wk_T64x]
    exact hp
  · intro n i x hi hI K
    refine br_f (wk_ge64 hi) ⟨vp_in_nI hi (by decide), nm_r (e' := nI (wk_s (fun j => M (j % 8) (j / 8)) (i + 1))) ?_ (nm_r (nI_1 i) (K _ rfl))⟩
    rw [hI, nI_clamp (by omega), wk_Xj h hi, nI_add]
    rfl
theorem xt_carry {post : SX → Prop} {H B : Nat → Nat → Nat} {v w : Nat} (hv : v < 8) (hw : w < 8) (hB : wk_X be B) (hH : wk_X he H)
    (K : ∀ h', wk_X h' (fun t x => if x = w then H t x + B t v else H t x) → post (ec, sz, st, kn, mk, ow, iw, kd, lb, h', be, tt)) : wpX_carry post (ec, sz, st, kn, mk, ow, iw, kd, lb, he, be, tt) (nI v) (nI w) := by
  refine loop_0 (fun n i h => wX_carry_2 post (nI v) (nI w) ec sz st kn n (nI i) mk ow iw kd lb h be tt) (fun i h => wk_X h (fun t x => if x = w ∧ t < i then H t x + B t v else H t x)) 8 he ?_ ?_ ?_
  · refine wk_Xc hH fun s x _ _ => ?_
    exact (if_neg (fun z => by omega)).symm
  · intro n h hI
    refine br_t wk_le8 (K h (wk_Xc hI fun s x hs _ => ?_))
    show (if x = w ∧ s < 8 then H s x + B s v else H s x) = (if x = w then H s x + B s v else H s x)
    by_cases e : x = w
    · rw [if_pos ⟨e, hs⟩, if_pos e]
    · rw [if_neg (fun z => e z.1), if_neg e]
  · intro n i h hi hI L
    refine br_f (wk_ge8 hi) ⟨wk_ix (by omega) (by decide), wk_ix (by omega) (by decide), wk_ix (by omega) (by decide), nm_e (nm_r (nI_1 i) (L _ ?_))⟩
    refine wk_Xu hI hi hw (wk_cx hw hi) ?_ ?_
    · rw [wk_cx hw hi, wk_cx hv hi, hI i w hi hw, hB i v hi hv, nI_add]
      dsimp only
      rw [if_neg (c := w = w ∧ i < i) (fun z => by omega), if_pos (c := w = w ∧ i < i + 1) ⟨rfl, by omega⟩]
    · intro t y ht hy hne
      by_cases e : y = w ∧ t < i
      · rw [if_pos e, if_pos ⟨e.1, by omega⟩]
      · rw [if_neg e, if_neg (fun z => e ⟨z.1, by omega⟩)]
theorem xt_76 {post : SX → Prop} {J : Int32 → Int32 → Int32 → Int32 → Int32 → (Nat → Int32) → (Nat → Int32) → (Nat → Int32) → (Nat → Int32) → (Nat → Int32) → (Nat → Int32) → (Nat → Int32) → (Nat → Int32) → Prop}
    {fo ba : Int32} {H B : Nat → Nat → Nat} {v w : Nat} (hv : v < 8) (hw : w < 8) (hB : wk_X be B) (hH : wk_X he H)
    (K : ∀ h', wk_X h' (fun t x => if x = w then H t x + wk_b ba x * B t v else H t x) → J (nI (w + 1)) ec sz st kn mk ow iw kd lb h' be tt) : wX_spread_76 post J (nI v) fo ba (nI w) ec sz st kn mk ow iw kd lb he be tt := by
  refine br_c (fun z => nm_r (nI_1 w) (K he ?_)) (fun z => xt_carry hv hw hB hH fun h' hh => nm_r (nI_1 w) (K h' ?_))
  · refine wk_Xc hH fun s x _ _ => ?_
    show H s x = if x = w then H s x + wk_b ba x * B s v else H s x
    by_cases e : x = w
    · rw [if_pos e, e, wk_b0 z, Nat.zero_mul, Nat.add_zero]
    · rw [if_neg e]
  · refine wk_Xc hh fun s x _ _ => ?_
    show (if x = w then H s x + B s v else H s x) = if x = w then H s x + wk_b ba x * B s v else H s x
    by_cases e : x = w
    · rw [if_pos e, if_pos e, e, wk_b1 z, Nat.one_mul]
    · rw [if_neg e, if_neg e]
theorem xt_52 {post : SX → Prop} {fo ba : Int32} {H B : Nat → Nat → Nat} {v : Nat} (hv : v < 8) (hB : wk_X be B) (hH : wk_X he H)
    (K : ∀ h', wk_X h' (fun t x => H t x + (wk_b fo x + wk_b ba x) * B t v) → post (ec, sz, st, kn, mk, ow, iw, kd, lb, h', be, tt)) : ∃ n52 : Nat, wX_spread_52 post (nI v) fo ba n52 0 ec sz st kn mk ow iw kd lb he be tt := by
  refine loop_0 (fun n i h => wX_spread_52 post (nI v) fo ba n (nI i) ec sz st kn mk ow iw kd lb h be tt) (fun i h => wk_X h (fun t x => if x < i then H t x + (wk_b fo x + wk_b ba x) * B t v else H t x)) 8 he ?_ ?_ ?_
  · refine wk_Xc hH fun s x _ _ => ?_
    exact (if_neg (fun z => by omega)).symm
  · intro n h hI
    refine br_t wk_le8 (K h (wk_Xc hI fun s x hs hx => ?_))
    exact if_pos hx
  · intro n i h hi hI L
    refine br_f (wk_ge8 hi) (br_c (fun z => ?_) (fun z => ?_))
    · refine xt_76 (he := h) hv hi hB hI fun h' hh => L h' (wk_Xc hh fun s x _ _ => ?_)
      show (if x = i then (if x < i then H s x + (wk_b fo x + wk_b ba x) * B s v else H s x) + wk_b ba x * B s v else (if x < i then H s x + (wk_b fo x + wk_b ba x) * B s v else H s x)) = (if x < i + 1 then H s x + (wk_b fo x + wk_b ba x) * B s v else H s x)
      by_cases e : x = i
      · rw [if_pos e, if_neg (c := x < i) (by omega), if_pos (c := x < i + 1) (by omega), e, wk_b0 z, Nat.zero_add]
      · rw [if_neg e]
        by_cases e2 : x < i
        · rw [if_pos e2, if_pos (by omega)]
        · rw [if_neg e2, if_neg (by omega)]
    · refine xt_carry (he := h) hv hi hB hI fun h1 hh1 => ?_
      refine xt_76 (he := h1) hv hi hB hh1 fun h' hh => L h' (wk_Xc hh fun s x _ _ => ?_)
      show (if x = i then (if x = i then (if x < i then H s x + (wk_b fo x + wk_b ba x) * B s v else H s x) + B s v else (if x < i then H s x + (wk_b fo x + wk_b ba x) * B s v else H s x)) + wk_b ba x * B s v else (if x = i then (if x < i then H s x + (wk_b fo x + wk_b ba x) * B s v else H s x) + B s v else (if x < i then H s x + (wk_b fo x + wk_b ba x) * B s v else H s x))) = (if x < i + 1 then H s x + (wk_b fo x + wk_b ba x) * B s v else H s x)
      by_cases e : x = i
      · rw [if_pos e, if_pos e, if_neg (c := x < i) (by omega), if_pos (c := x < i + 1) (by omega), e, wk_b1 z, Nat.add_mul, Nat.one_mul]
        omega
      · rw [if_neg e, if_neg e]
        by_cases e2 : x < i
        · rw [if_pos e2, if_pos (by omega)]
        · rw [if_neg e2, if_neg (by omega)]
theorem xt_spread {post : SX → Prop} {κ : Int32} {H B : Nat → Nat → Nat} {v l : Nat} (hv : v < 8) (hl : l < 2) (hB : wk_X be B) (hH : wk_X he H)
    (K : ∀ h', wk_X h' (fun t x => H t x + ((if κ = 1 then 0 else wk_b (ow (l * 8 + v)) x) + (if κ = 1 ∨ κ = 2 then wk_b (iw (l * 8 + v)) x else 0)) * B t v) → post (ec, sz, st, kn, mk, ow, iw, kd, lb, h', be, tt)) : wpX_spread post (ec, sz, st, kn, mk, ow, iw, kd, lb, he, be, tt) κ (nI v) (nI l) := by
  have hin : vp_in (nI l * 8 + nI v) 16 := wk_ix (by omega) (by decide)
  have hcl : (nI l * 8 + nI v).toNatClampNeg = l * 8 + v := wk_cx (by omega) hv
  have T : ∀ z : Int32, (∀ x, x < 8 → wk_b z x = if κ = 1 then 0 else wk_b (ow (l * 8 + v)) x) → wX_spread_20 post κ (nI v) (nI l) z ec sz st kn mk ow iw kd lb he be tt := by
    intro z hz
    have T2 : (κ = 1 ∨ κ = 2) → wX_spread_32 post (nI v) (nI l) z ec sz st kn mk ow iw kd lb he be tt := by
      intro hk
      refine ⟨hin, nm_r (e' := iw (l * 8 + v)) (by rw [hcl]) (xt_52 hv hB hH fun h' hh => K h' (wk_Xc hh fun s x _ hx => ?_))⟩
      show H s x + (wk_b z x + wk_b (iw (l * 8 + v)) x) * B s v = _
      rw [hz x hx, if_pos (c := κ = 1 ∨ κ = 2) hk]
    refine br_c (fun h1 => T2 (Or.inl h1)) (fun h1 => br_c (fun h2 => T2 (Or.inr h2)) (fun h2 => ?_))
    refine xt_52 hv hB hH fun h' hh => K h' (wk_Xc hh fun s x _ hx => ?_)
    show H s x + (wk_b z x + wk_b 0 x) * B s v = _
    rw [hz x hx, wk_bz hx, if_neg (c := κ = 1 ∨ κ = 2) (fun t => t.elim h1 h2)]
  refine br_c (fun h1 => T 0 fun x hx => ?_) (fun h1 => ⟨hin, T _ fun x hx => ?_⟩)
  · rw [if_pos h1, wk_bz hx]
  · rw [if_neg h1, hcl]
theorem xt_moves {post : Int32 → Prop} {n : Int32} {v : Nat} (hv : v < 8)
    (h0 : (n = 1 ∨ ow v = 0) ∧ (n = 0 ∨ ow (8 + v) = 0) → post 0) (h1 : ¬ ((n = 1 ∨ ow v = 0) ∧ (n = 0 ∨ ow (8 + v) = 0)) → post 1) : wpX_moves post (ec, sz, st, kn, mk, ow, iw, kd, lb, he, be, tt) (nI v) n := by
  have e8 : (8 : Int32) + nI v = nI (8 + v) := nI_add 8 v
  have c8 : ((8 : Int32) + nI v).toNatClampNeg = 8 + v := by rw [e8, nI_clamp (by omega)]
  have A : (n = 1 ∨ ow v = 0) → wX_moves_18 post (nI v) n ec sz st kn mk ow iw kd lb he be tt := by
    intro ha
    refine br_t (c := (0 : Int32) = 0) rfl (br_c (fun z => h0 ⟨ha, Or.inl z⟩) (fun z => ⟨by rw [e8]; exact vp_in_nI (by omega) (by decide), br_c (fun y => h0 ⟨ha, Or.inr (by rw [← c8]; exact y)⟩) (fun y => h1 fun t => t.2.elim z (fun q => y (by rw [c8]; exact q)))⟩))
  refine br_c (fun z => A (Or.inl z)) (fun z => ⟨vp_in_nI (by omega) (by decide), br_c (fun y => A (Or.inr (by rw [nI_clamp (by omega)] at y; exact y))) (fun y => ?_)⟩)
  refine br_f (c := (1 : Int32) = 0) (by decide) (h1 fun t => t.1.elim z (fun q => y (by rw [nI_clamp (by omega)]; exact q)))
end
end
section
section
variable {ec sz st kn : Int32} {mk ow iw kd lb he be tt : Nat → Int32}
theorem xt_44 {post : SX → Prop} {J : Int32 → Int32 → Int32 → Int32 → Int32 → (Nat → Int32) → (Nat → Int32) → (Nat → Int32) → (Nat → Int32) → (Nat → Int32) → (Nat → Int32) → (Nat → Int32) → (Nat → Int32) → Prop}
    {κ n : Int32} {H B : Nat → Nat → Nat} {v : Nat} (hv : v < 8) (hB : wk_X be B) (hH : wk_X he H)
    (K : ∀ h', wk_X h' (fun t x => H t x + wk_G κ n ow iw v x * B t v) → J (nI (v + 1)) ec sz st kn mk ow iw kd lb h' be tt) : ∃ n44 : Nat, wX_move_44 post J κ n (nI v) n44 0 ec sz st kn mk ow iw kd lb he be tt := by
  refine loop_0 (fun m i h => wX_move_44 post J κ n (nI v) m (nI i) ec sz st kn mk ow iw kd lb h be tt) (fun i h => wk_X h (fun t x => H t x + wk_s (wk_g1 κ n ow iw v x) i * B t v)) 2 he ?_ ?_ ?_
  · refine wk_Xc hH fun s x _ _ => ?_
    show H s x = H s x + 0 * B s v
    rw [Nat.zero_mul, Nat.add_zero]
  · intro m h hI
    refine br_t wk_le2 (br_c (fun h3 => ?_) (fun h3 => nm_r (nI_1 v) (K h (wk_Xc hI fun s x _ _ => ?_))))
    · refine xt_moves hv (fun hm => br_t (c := (0 : Int32) = 0) rfl (xt_carry hv hv hB hI fun h' hh => nm_r (nI_1 v) (K h' (wk_Xc hh fun s x _ _ => ?_)))) (fun hm => br_f (c := (1 : Int32) = 0) (by decide) (nm_r (nI_1 v) (K h (wk_Xc hI fun s x _ _ => ?_))))
      · show (if x = v then (H s x + wk_s (wk_g1 κ n ow iw v x) 2 * B s v) + B s v else (H s x + wk_s (wk_g1 κ n ow iw v x) 2 * B s v)) = H s x + (wk_s (wk_g1 κ n ow iw v x) 2 + wk_g0 κ n ow v x) * B s v
        unfold wk_g0
        by_cases e : x = v
        · rw [if_pos e, if_pos ⟨h3, hm.1, hm.2, e⟩, Nat.add_mul, Nat.one_mul, Nat.add_assoc]
        · rw [if_neg e, if_neg (fun z => e z.2.2.2), Nat.add_zero]
      · show (H s x + wk_s (wk_g1 κ n ow iw v x) 2 * B s v) = H s x + (wk_s (wk_g1 κ n ow iw v x) 2 + wk_g0 κ n ow v x) * B s v
        unfold wk_g0
        rw [if_neg (fun z => hm ⟨z.2.1, z.2.2.1⟩), Nat.add_zero]
    · show (H s x + wk_s (wk_g1 κ n ow iw v x) 2 * B s v) = H s x + (wk_s (wk_g1 κ n ow iw v x) 2 + wk_g0 κ n ow v x) * B s v
      unfold wk_g0
      rw [if_neg (fun z => h3 z.1), Nat.add_zero]
  · intro m i h hi hI L
    have A : (n = 2 ∨ n = nI i) → wX_move_61 post J (wX_move_44 post J κ n (nI v) m) κ n (nI v) (nI i) ec sz st kn mk ow iw kd lb h be tt := by
      intro hf
      refine xt_spread hv hi hB hI fun h' hh => nm_r (nI_1 i) (L h' (wk_Xc hh fun s x _ _ => ?_))
      show (H s x + wk_s (wk_g1 κ n ow iw v x) i * B s v) + ((if κ = 1 then 0 else wk_b (ow (i * 8 + v)) x) + (if κ = 1 ∨ κ = 2 then wk_b (iw (i * 8 + v)) x else 0)) * B s v = H s x + (wk_s (wk_g1 κ n ow iw v x) i + wk_g1 κ n ow iw v x i) * B s v
      have e : wk_g1 κ n ow iw v x i = (if κ = 1 then 0 else wk_b (ow (i * 8 + v)) x) + (if κ = 1 ∨ κ = 2 then wk_b (iw (i * 8 + v)) x else 0) := if_pos hf
      rw [e, Nat.add_mul (wk_s (wk_g1 κ n ow iw v x) i), Nat.add_assoc]
    refine br_f (wk_ge2 hi) (br_c (fun h2 => A (Or.inl h2)) (fun h2 => br_c (fun h1 => A (Or.inr h1)) (fun h1 => nm_r (nI_1 i) (L h (wk_Xc hI fun s x _ _ => ?_)))))
    show H s x + wk_s (wk_g1 κ n ow iw v x) i * B s v = H s x + (wk_s (wk_g1 κ n ow iw v x) i + wk_g1 κ n ow iw v x i) * B s v
    have e : wk_g1 κ n ow iw v x i = 0 := if_neg (fun z => z.elim h2 h1)
    rw [e, Nat.add_zero]
theorem xt_35 {post : SX → Prop} {κ n : Int32} {M : Nat → Nat → Nat} (hB : wk_X be M) (hH : wk_X he (fun _ _ => 0))
    (K : ∀ h', wk_X h' (fun t x => wk_s (fun v => wk_G κ n ow iw v x * M t v) 8) → post (ec, sz, st, kn, mk, ow, iw, kd, lb, h', be, tt)) : ∃ n35 : Nat, wX_move_35 post κ n n35 0 ec sz st kn mk ow iw kd lb he be tt := by
  refine loop_0 (fun m i h => wX_move_35 post κ n m (nI i) ec sz st kn mk ow iw kd lb h be tt) (fun i h => wk_X h (fun t x => wk_s (fun v => wk_G κ n ow iw v x * M t v) i)) 8 he hH ?_ ?_
  · intro m h hI
    exact br_t wk_le8 (K h hI)
  · intro m i h hi hI L
    exact br_f (wk_ge8 hi) (xt_44 (J := wX_move_35 post κ n m) hi hB hI fun h' hh => L h' hh)
theorem xt_move {post : SX → Prop} {κ n : Int32} {M : Nat → Nat → Nat} (hH : wk_X he M)
    (K : ∀ h' b', wk_X h' (fun t x => wk_s (fun v => wk_G κ n ow iw v x * M t v) 8) → post (ec, sz, st, kn, mk, ow, iw, kd, lb, h', b', tt)) : wpX_move post (ec, sz, st, kn, mk, ow, iw, kd, lb, he, be, tt) κ n := by
  refine loop_0 (fun m i (p : (Nat → Int32) × (Nat → Int32)) => wX_move_2 post κ n ec sz st kn m (nI i) mk ow iw kd lb p.1 p.2 tt) (fun i p => (∀ j, j < i → p.2 j = he j ∧ p.1 j = 0) ∧ (∀ j, i ≤ j → p.1 j = he j)) 64 (he, be) ?_ ?_ ?_
  · exact ⟨fun j hj => absurd hj (Nat.not_lt_zero j), fun j _ => rfl⟩
  · intro m p hI
    refine br_t wk_le64 (xt_35 (M := M) ?_ ?_ fun h' hh => K h' p.2 hh)
    · intro s w hs hw
      rw [(hI.1 (w * 8 + s) (by omega)).1]
      exact hH s w hs hw
    · intro s w hs hw
      exact (hI.1 (w * 8 + s) (by omega)).2
  · intro m i p hi hI L
    refine br_f (wk_ge64 hi) ⟨vp_in_nI hi (by decide), vp_in_nI hi (by decide), nm_e ⟨vp_in_nI hi (by decide), nm_e (nm_r (nI_1 i) (L (_, _) ?_))⟩⟩
    rw [nI_clamp (by omega)]
    refine ⟨fun j hj => ?_, fun j hj => ?_⟩
    · by_cases e : j = i
      · subst e
        refine ⟨?_, ?_⟩
        · show upd p.2 j (p.1 j) j = he j
          rw [pk_us]; exact hI.2 j (Nat.le_refl _)
        · show upd p.1 j 0 j = 0
          exact pk_us
      · refine ⟨?_, ?_⟩
        · show upd p.2 i (p.1 i) j = he j
          rw [pk_un e]; exact (hI.1 j (by omega)).1
        · show upd p.1 i 0 j = 0
          rw [pk_un e]; exact (hI.1 j (by omega)).2
    · show upd p.1 i 0 j = he j
      rw [pk_un (by omega)]; exact hI.2 j (by omega)
theorem wk_or0 (x : Int32) : x ||| 0 = x := by simp
theorem xt_k12 {post : SX → Prop} {J : Int32 → (Nat → Int32) → (Nat → Int32) → (Nat → Int32) → (Nat → Int32) → (Nat → Int32) → (Nat → Int32) → (Nat → Int32) → (Nat → Int32) → Prop}
    {M : Nat → Nat → Nat} {v : Nat} (hM : ∀ s w, s < 8 → w < 8 → M s w < 2 ^ 31) (hv : v < 8) (hH : wk_X he (fun t x => if x < v then wk_K M t x else M t x))
    (K : ∀ h', wk_X h' (fun t x => if x < v + 1 then wk_K M t x else M t x) → J (nI (v + 1)) mk ow iw kd lb h' be tt) : ∃ n12 : Nat, wX_keepOne_12 post J (nI v) ec sz st kn n12 0 0 mk ow iw kd lb he be tt := by
  refine loop_0 (fun m i (p : Int32 × (Nat → Int32)) => wX_keepOne_12 post J (nI v) ec sz st kn m p.1 (nI i) mk ow iw kd lb p.2 be tt) (fun i p => p.1 = (if wk_s (fun r => M r v) i = 0 then 0 else 1) ∧ wk_X p.2 (fun t x => if x < v ∨ (x = v ∧ t < i) then wk_K M t x else M t x)) 8 (0, he) ?_ ?_ ?_
  · refine ⟨rfl, wk_Xc hH fun s x _ _ => ?_⟩
    show (if x < v then wk_K M s x else M s x) = (if x < v ∨ (x = v ∧ s < 0) then wk_K M s x else M s x)
    by_cases e : x < v
    · rw [if_pos e, if_pos (Or.inl e)]
    · rw [if_neg e, if_neg (by omega)]
  · intro m p hI
    refine br_t wk_le8 (nm_r (nI_1 v) (K p.2 (wk_Xc hI.2 fun s x hs _ => ?_)))
    show (if x < v ∨ (x = v ∧ s < 8) then wk_K M s x else M s x) = (if x < v + 1 then wk_K M s x else M s x)
    by_cases e : x < v + 1
    · rw [if_pos e, if_pos (by omega)]
    · rw [if_neg e, if_neg (by omega)]
  · intro m i p hi hI L
    have hin : vp_in (nI v * 8 + nI i) 64 := wk_ix (by omega) (by decide)
    have hcl : (nI v * 8 + nI i).toNatClampNeg = v * 8 + i := wk_cx hv hi
    have hval : p.2 (v * 8 + i) = nI (M i v) := by
      refine (hI.2 i v hi hv).trans (congrArg nI ?_)
      show (if v < v ∨ (v = v ∧ i < i) then wk_K M i v else M i v) = M i v
      exact if_neg (by omega)
    have hsum : wk_s (fun r => M r v) (i + 1) = wk_s (fun r => M r v) i + M i v := rfl
    have hup : ∀ c : Nat, c = wk_K M i v → wk_X (upd p.2 (nI v * 8 + nI i).toNatClampNeg (nI c)) (fun t x => if x < v ∨ (x = v ∧ t < i + 1) then wk_K M t x else M t x) := by
      intro c hc
      refine wk_Xu hI.2 hi hv hcl ?_ ?_
      · rw [if_pos (c := v < v ∨ (v = v ∧ i < i + 1)) (by omega), hc]
      · intro t y ht hy hne
        by_cases e : y < v ∨ (y = v ∧ t < i)
        · rw [if_pos e, if_pos (by omega)]
        · rw [if_neg e, if_neg (by omega)]
    have Z : (wk_K M i v = 0) → ((if wk_s (fun r => M r v) (i + 1) = 0 then 0 else 1 : Int32) = p.1) → wX_keepOne_40 post J (wX_keepOne_12 post J (nI v) ec sz st kn m) (nI v) p.1 (nI i) ec sz st kn mk ow iw kd lb p.2 be tt := by
      intro hk hp
      exact br_t (c := (0 : Int32) = 0) rfl ⟨hin, nm_e (nm_r (wk_or0 p.1) (nm_r (nI_1 i) (L (p.1, upd p.2 (nI v * 8 + nI i).toNatClampNeg 0) ⟨hp.symm, hup 0 hk.symm⟩)))⟩
    refine br_f (wk_ge8 hi) (br_c (fun h0 => ⟨hin, br_c (fun hle => ?_) (fun hgt => ?_)⟩) (fun h0 => ?_))
    · have s0 : wk_s (fun r => M r v) i = 0 := by
        by_cases z : wk_s (fun r => M r v) i = 0
        · exact z
        · exfalso
          have a := hI.1
          rw [if_neg z, h0] at a
          exact absurd a (by decide)
      have m0 : M i v = 0 := by
        by_cases z : M i v = 0
        · exact z
        · exfalso
          rw [hcl, hval] at hle
          exact nI_nle (by omega) (hM i v hi hv) hle
      refine Z ?_ ?_
      · unfold wk_K
        exact if_neg (by omega)
      · rw [hsum, s0, m0, h0]; rfl
    · have s0 : wk_s (fun r => M r v) i = 0 := by
        by_cases z : wk_s (fun r => M r v) i = 0
        · exact z
        · exfalso
          have a := hI.1
          rw [if_neg z, h0] at a
          exact absurd a (by decide)
      have m0 : 0 < M i v := by
        by_cases z : M i v = 0
        · exfalso
          rw [hcl, hval, z] at hgt
          exact hgt (by decide)
        · omega
      refine br_f (c := (1 : Int32) = 0) (by decide) ⟨hin, nm_e (nm_r (e' := 1) (by rw [h0]; decide) (nm_r (nI_1 i) (L (1, upd p.2 (nI v * 8 + nI i).toNatClampNeg 1) ⟨?_, hup 1 ?_⟩)))⟩
      · rw [if_neg (by rw [hsum]; omega)]
      · unfold wk_K
        exact (if_pos ⟨m0, s0⟩).symm
    · have s1 : ¬ wk_s (fun r => M r v) i = 0 := by
        intro z
        have a := hI.1
        rw [if_pos z] at a
        exact h0 a
      refine Z ?_ ?_
      · unfold wk_K
        exact if_neg (fun z => s1 z.2)
      · rw [hI.1, if_neg s1, if_neg (by rw [hsum]; omega)]
theorem xt_keep {post : SX → Prop} {M : Nat → Nat → Nat} (hM : ∀ s w, s < 8 → w < 8 → M s w < 2 ^ 31) (hH : wk_X he M)
    (K : ∀ h', wk_X h' (wk_K M) → post (ec, sz, st, kn, mk, ow, iw, kd, lb, h', be, tt)) : wpX_keepOne post (ec, sz, st, kn, mk, ow, iw, kd, lb, he, be, tt) := by
  refine loop_0 (fun m i h => wX_keepOne_2 post ec sz st kn m (nI i) mk ow iw kd lb h be tt) (fun i h => wk_X h (fun t x => if x < i then wk_K M t x else M t x)) 8 he ?_ ?_ ?_
  · exact wk_Xc hH fun s x _ _ => (if_neg (Nat.not_lt_zero x)).symm
  · intro m h hI
    exact br_t wk_le8 (K h (wk_Xc hI fun s x _ hx => if_pos hx))
  · intro m i h hi hI L
    exact br_f (wk_ge8 hi) (xt_k12 (J := wX_keepOne_2 post ec sz st kn m) hM hi hI fun h' hh => L h' hh)
theorem xt_filter {post : SX → Prop} {κ n : Int32} {M : Nat → Nat → Nat} (hκ : κ = 4 ∨ κ = 5 ∨ κ = 6) (hH : wk_X he M)
    (K : ∀ h', wk_X h' (wk_F κ n mk M) → post (ec, sz, st, kn, mk, ow, iw, kd, lb, h', be, tt)) : wpX_filter post (ec, sz, st, kn, mk, ow, iw, kd, lb, he, be, tt) κ n := by
  refine loop_0 (fun m i h => wX_filter_2 post κ n ec sz st kn m (nI i) mk ow iw kd lb h be tt) (fun i h => wk_X h (fun t x => if x * 8 + t < i then wk_F κ n mk M t x else M t x)) 64 he ?_ ?_ ?_
  · exact wk_Xc hH fun s x _ _ => (if_neg (Nat.not_lt_zero _)).symm
  · intro m h hI
    exact br_t wk_le64 (K h (wk_Xc hI fun s x hs hx => if_pos (by omega)))
  · intro m i h hi hI L
    have Z : wk_F κ n mk M (i % 8) (i / 8) = 0 → wX_filter_75 post (wX_filter_2 post κ n ec sz st kn m) κ n (nI i) 0 ec sz st kn mk ow iw kd lb h be tt := by
      intro hz
      refine br_t (c := (0 : Int32) = 0) rfl ⟨vp_in_nI hi (by decide), nm_e (nm_r (nI_1 i) (L _ ?_))⟩
      refine wk_Xu (s := i % 8) (w := i / 8) hI (by omega) (by omega) ?_ ?_ ?_
      · rw [nI_clamp (by omega)]; omega
      · rw [if_pos (c := i / 8 * 8 + i % 8 < i + 1) (by omega), hz]; rfl
      · intro t y ht hy hne
        by_cases e : y * 8 + t < i
        · rw [if_pos e, if_pos (by omega)]
        · rw [if_neg e, if_neg (by omega)]
    have N : wk_F κ n mk M (i % 8) (i / 8) = M (i % 8) (i / 8) → wX_filter_75 post (wX_filter_2 post κ n ec sz st kn m) κ n (nI i) 1 ec sz st kn mk ow iw kd lb h be tt := by
      intro hz
      refine br_f (c := (1 : Int32) = 0) (by decide) (nm_r (nI_1 i) (L _ (wk_Xc hI fun t y ht hy => ?_)))
      show (if y * 8 + t < i then wk_F κ n mk M t y else M t y) = (if y * 8 + t < i + 1 then wk_F κ n mk M t y else M t y)
      by_cases e : y * 8 + t < i
      · rw [if_pos e, if_pos (by omega)]
      · by_cases e2 : y * 8 + t = i
        · rw [if_neg e, if_pos (by omega)]
          have e3 : t = i % 8 := by omega
          have e4 : y = i / 8 := by omega
          rw [e3, e4]; exact hz.symm
        · rw [if_neg e, if_neg (by omega)]
    have n45 : ¬ (5 : Int32) = 4 := by decide
    have n46 : ¬ (6 : Int32) = 4 := by decide
    have n56 : ¬ (5 : Int32) = 6 := by decide
    have n65 : ¬ (6 : Int32) = 5 := by decide
    have n10 : ¬ (1 : Int32) = 0 := by decide
    have n01 : ¬ (0 : Int32) = 1 := by decide
    refine br_f (wk_ge64 hi) ⟨wk_n8, nm_r (wk_d8 hi) ⟨wk_n8, nm_r (wk_r8 hi) (br_c (fun h4 => ⟨vp_in_nI (by omega) (by decide), br_c (fun hlt => Z ?_) (fun hlt => N ?_)⟩) (fun h4 => br_c (fun heq => ?_) (fun hne => ?_)))⟩⟩
    · rw [nI_clamp (by omega)] at hlt
      unfold wk_F
      rw [if_pos h4, if_pos hlt]
    · rw [nI_clamp (by omega)] at hlt
      unfold wk_F
      rw [if_pos h4, if_neg hlt]
    · have e : i % 8 = i / 8 := ((nI_eq (by omega) (by omega)).mp heq).symm
      rcases hκ with k | k | k
      · exact absurd k h4
      · refine br_f (by rw [k]; exact n56) (br_f n10 (Z ?_))
        unfold wk_F
        rw [if_neg h4, if_pos k, if_pos e]
      · refine br_t k (br_t (c := (1 : Int32) = 1) rfl (N ?_))
        unfold wk_F
        rw [if_neg h4, if_neg (by rw [k]; exact n65), if_pos e]
    · have e : ¬ i % 8 = i / 8 := fun z => hne (by rw [z])
      rcases hκ with k | k | k
      · exact absurd k h4
      · refine br_f (by rw [k]; exact n56) (br_t (c := (0 : Int32) = 0) rfl (N ?_))
        unfold wk_F
        rw [if_neg h4, if_pos k, if_neg e]
      · refine br_t k (br_f n01 (Z ?_))
        unfold wk_F
        rw [if_neg h4, if_neg (by rw [k]; exact n65), if_neg e]
end
end
section
/-- what the component's cells hold when they are known -/
def wk_Q (n : Nat) (st : Int32) (mk ow iw kd lb he tt : Nat → Int32) : Prop :=
  wk_X he (wk_C st mk ow iw kd lb n) ∧ ∀ k, k ≤ n → tt k = nI (wk_T (wk_C st mk ow iw kd lb k))
section
variable {ec sz st kn : Int32} {mk ow iw kd lb he be tt : Nat → Int32}
theorem xt_156 {post : SX → Prop} {J : Int32 → Int32 → Int32 → Int32 → Int32 → (Nat → Int32) → (Nat → Int32) → (Nat → Int32) → (Nat → Int32) → (Nat → Int32) → (Nat → Int32) → (Nat → Int32) → (Nat → Int32) → Prop}
    {M : Nat → Nat → Nat} {k : Nat} (hk : k < 6) (hH : wk_X he M) (K : J (nI (k + 1)) ec sz st kn mk ow iw kd lb he be (upd tt (k + 1) (nI (wk_T M)))) : wX_walk_156 post J (nI k) ec sz st kn mk ow iw kd lb he be tt := by
  have c : (nI k + 1).toNatClampNeg = k + 1 := by rw [nI_1, nI_clamp (by omega)]
  refine xt_total hH ⟨by rw [nI_1]; exact vp_in_nI (by omega) (by decide), nm_r (e' := upd tt (k + 1) (nI (wk_T M))) (by rw [c]) (nm_r (nI_1 k) K)⟩
theorem xt_85 {post : SX → Prop} {n : Nat} (hn : n ≤ 6) (hP : ∀ k, k < n → ∃ κ, κ ≤ 7 ∧ kd k = nI κ) (hH : wk_X he (wk_C st mk ow iw kd lb 0)) (hT : tt 0 = nI (wk_T (wk_C st mk ow iw kd lb 0)))
    (K : ∀ h' b' t', wk_Q n st mk ow iw kd lb h' t' → post (ec, nI n, st, kn, mk, ow, iw, kd, lb, h', b', t')) : ∃ n85 : Nat, wX_walk_85 post n85 0 ec (nI n) st kn mk ow iw kd lb he be tt := by
  refine loop_0 (fun m i (p : (Nat → Int32) × (Nat → Int32) × (Nat → Int32)) => wX_walk_85 post m (nI i) ec (nI n) st kn mk ow iw kd lb p.1 p.2.1 p.2.2) (fun i p => wk_Q i st mk ow iw kd lb p.1 p.2.2) n (he, be, tt) ?_ ?_ ?_
  · refine ⟨hH, fun k hk => ?_⟩
    have : k = 0 := by omega
    rw [this]; exact hT
  · intro m p hI
    exact br_t (nI_le (Nat.le_refl _) (by omega)) (K p.1 p.2.1 p.2.2 hI)
  · intro m k p hk hI L
    have hc : (nI k).toNatClampNeg = k := nI_clamp (by omega)
    have hin : vp_in (nI k) 6 := vp_in_nI (by omega) (by decide)
    have hlt : ∀ s w, s < 8 → w < 8 → wk_C st mk ow iw kd lb k s w < 2 ^ 31 := fun s w hs hw => wk_Clt st mk ow iw kd lb (by omega) hs hw
    have F : ∀ h' b', wk_X h' (wk_C st mk ow iw kd lb (k + 1)) → wX_walk_156 post (wX_walk_85 post m) (nI k) ec (nI n) st kn mk ow iw kd lb h' b' p.2.2 := by
      intro h' b' hh
      refine xt_156 (by omega) hh (L (h', b', _) ⟨hh, fun j hj => ?_⟩)
      show upd p.2.2 (k + 1) (nI (wk_T (wk_C st mk ow iw kd lb (k + 1)))) j = nI (wk_T (wk_C st mk ow iw kd lb j))
      by_cases e : j = k + 1
      · rw [e, pk_us]
      · rw [pk_un e]; exact hI.2 j (by omega)
    have hS : ∀ s w, wk_C st mk ow iw kd lb (k + 1) s w = wk_S (kd k) (lb k) mk ow iw (wk_C st mk ow iw kd lb k) s w := fun s w => rfl
    refine br_f (nI_ge hk (by omega)) ⟨hin, br_c (fun h3 => ⟨hin, br_c (fun h7 => ?_) (fun h7 => ⟨hin, hin, ?_⟩)⟩) (fun h3 => ⟨hin, hin, ?_⟩)⟩
    · rw [hc] at h3 h7
      refine xt_keep hlt hI.1 fun h' hh => F h' p.2.1 (wk_Xc hh fun s w _ _ => ?_)
      rw [hS]; unfold wk_S
      rw [if_pos h3, if_pos h7]
    · rw [hc] at h3 h7
      have hκ : kd k = 4 ∨ kd k = 5 ∨ kd k = 6 := by
        obtain ⟨κ, hk7, e⟩ := hP k hk
        rw [e] at h3 h7 ⊢
        have a : 3 < κ := (nI_ltI (a := 3) (b := κ) (by decide) (by omega)).mp h3
        have b : κ ≠ 7 := fun z => h7 (by rw [z]; rfl)
        have : κ = 4 ∨ κ = 5 ∨ κ = 6 := by omega
        rcases this with z | z | z
        · exact Or.inl (by rw [z]; rfl)
        · exact Or.inr (Or.inl (by rw [z]; rfl))
        · exact Or.inr (Or.inr (by rw [z]; rfl))
      refine xt_filter (by rw [hc]; exact hκ) hI.1 fun h' hh => F h' p.2.1 (wk_Xc hh fun s w _ _ => ?_)
      rw [hS]; unfold wk_S
      rw [if_pos h3, if_neg h7, hc]
    · rw [hc] at h3
      refine xt_move hI.1 fun h' b' hh => F h' b' (wk_Xc hh fun s w _ _ => ?_)
      rw [hS]; unfold wk_S
      rw [if_neg h3, hc]
theorem xt_walk {post : SX → Prop} {n : Nat} (hn : n ≤ 6) (hP : ∀ k, k < n → ∃ κ, κ ≤ 7 ∧ kd k = nI κ) (hQ : kn = 0 ∨ wk_Q n st mk ow iw kd lb he tt)
    (K : ∀ kn' h' b' t', wk_Q n st mk ow iw kd lb h' t' → post (ec, nI n, st, kn', mk, ow, iw, kd, lb, h', b', t')) : wpX_walk post (ec, nI n, st, kn, mk, ow, iw, kd, lb, he, be, tt) := by
  refine br_c (fun _ => ?_) (fun h0 => K kn he be tt (hQ.resolve_left h0))
  refine loop_0 (fun m i h => wX_walk_15 post ec (nI n) st 1 m (nI i) mk ow iw kd lb h be tt) (fun i h => ∀ j, j < i → h j = nI (wk_C st mk ow iw kd lb 0 (j % 8) (j / 8))) 64 he (fun j hj => absurd hj (Nat.not_lt_zero j)) ?_ ?_
  · intro m h hI
    have hH : wk_X h (wk_C st mk ow iw kd lb 0) := by
      intro s w hs hw
      rw [hI (w * 8 + s) (by omega), show (w * 8 + s) % 8 = s from by omega, show (w * 8 + s) / 8 = w from by omega]
    refine br_t wk_le64 (xt_total hH (nm_e (xt_85 hn hP hH pk_us fun h' b' t' hq => K 1 h' b' t' hq)))
  · intro m i h hi hI L
    have e1 : nI i / 8 = nI (i / 8) := wk_d8 hi
    have e2 : nI i - nI i / 8 * 8 = nI (i % 8) := wk_r8 hi
    have P : ∀ c : Nat, c = wk_C st mk ow iw kd lb 0 (i % 8) (i / 8) → ∀ j, j < i + 1 → upd h (nI i).toNatClampNeg (nI c) j = nI (wk_C st mk ow iw kd lb 0 (j % 8) (j / 8)) := by
      intro c hc j hj
      rw [nI_clamp (by omega)]
      by_cases e : j = i
      · rw [e, pk_us, hc]
      · rw [pk_un e]; exact hI j (by omega)
    have hin : vp_in (nI i) 64 := vp_in_nI hi (by decide)
    have C : wk_C st mk ow iw kd lb 0 (i % 8) (i / 8) = (if i % 8 = i / 8 then wk_b st (i % 8) else 0) := rfl
    have Z : wk_C st mk ow iw kd lb 0 (i % 8) (i / 8) = 0 → wX_walk_50 post (wX_walk_15 post ec (nI n) st 1 m) (nI i) ec (nI n) st 1 mk ow iw kd lb h be tt := fun hz =>
      br_t (c := (0 : Int32) = 0) rfl ⟨hin, nm_e (nm_r (nI_1 i) (L _ (P 0 hz.symm)))⟩
    refine br_f (wk_ge64 hi) ⟨wk_n8, wk_n8, br_c (fun hq => ⟨wk_n8, br_c (fun hb => Z ?_) (fun hb => ?_)⟩) (fun hq => Z ?_)⟩
    · rw [e2] at hb
      rw [C, wk_b0 hb]
      split <;> rfl
    · rw [e2] at hb
      rw [e2, e1] at hq
      have e : i % 8 = i / 8 := ((nI_eq (by omega) (by omega)).mp hq).symm
      exact br_f (c := (1 : Int32) = 0) (by decide) ⟨hin, nm_e (nm_r (nI_1 i) (L _ (P 1 (by rw [C, if_pos e, wk_b1 hb]))))⟩
    · rw [C, if_neg]
      intro z
      apply hq
      rw [e2, e1, z]
end
end
section
section
variable {ec : Nat} {sz st : Int32} {mk bg en la kd nu nw th : Nat → Int32}
theorem ys_93 {post : Int32 → SY → Prop} {J : Int32 → Int32 → (Nat → Int32) → (Nat → Int32) → (Nat → Int32) → (Nat → Int32) → (Nat → Int32) → (Nat → Int32) → (Nat → Int32) → (Nat → Int32) → Prop}
    {T M : Nat → Nat → Nat} {s v e c : Nat} {n o i z : Int32} (hs : s < 8) (hv : v < 8) (he : e < 10) (hb : ∃ b, b < 8 ∧ bg e = nI b) (hN : wk_Y nw M) (hT : wk_Y th T) (hz : z = 0 ↔ ¬ (n = 2 ∨ la e = n))
    (K : ∀ h', wk_Y h' (fun t x => T t x + if t = s then (if (n = 2 ∨ la e = n) ∧ ¬ i = 0 ∧ en e = nI v ∧ bg e = nI x then 1 else 0) * M s v else 0) → J (nI (c + if (n = 2 ∨ la e = n) ∧ ¬ i = 0 ∧ en e = nI v then 1 else 0)) (nI (e + 1)) mk bg en la kd nu nw h') :
    wY_send_93 post J (nI s) (nI v) n o i (nI c) (nI e) z (nI ec) sz st mk bg en la kd nu nw th := by
  have hc : (nI e).toNatClampNeg = e := nI_clamp (by omega)
  have hin : vp_in (nI e) 10 := vp_in_nI he (by decide)
  have N : ¬ ((n = 2 ∨ la e = n) ∧ ¬ i = 0 ∧ en e = nI v) → J (nI c) (nI (e + 1)) mk bg en la kd nu nw th := by
    intro h
    have k := K th (wk_Yc hT fun t x _ _ => ?_)
    · rw [if_neg h, Nat.add_zero] at k
      exact k
    · show T t x = T t x + if t = s then (if (n = 2 ∨ la e = n) ∧ ¬ i = 0 ∧ en e = nI v ∧ bg e = nI x then 1 else 0) * M s v else 0
      rw [if_neg (c := (n = 2 ∨ la e = n) ∧ ¬ i = 0 ∧ en e = nI v ∧ bg e = nI x) (fun q => h ⟨q.1, q.2.1, q.2.2.1⟩), Nat.zero_mul]
      split <;> rfl
  refine br_c (fun h0 => nm_r (nI_1 e) (N fun q => hz.mp h0 q.1)) (fun h0 => br_c (fun h1 => nm_r (nI_1 e) (N fun q => q.2.1 h1)) (fun h1 => ⟨hin, br_c (fun h2 => ?_) (fun h2 => nm_r (nI_1 e) (N fun q => h2 (by rw [hc]; exact q.2.2)))⟩))
  rw [hc] at h2
  obtain ⟨b, hb8, hb2⟩ := hb
  have hbg : bg (nI e).toNatClampNeg = nI b := by rw [hc]; exact hb2
  have hf : n = 2 ∨ la e = n := by
    by_cases q : n = 2 ∨ la e = n
    · exact q
    · exact absurd (hz.mpr q) h0
  have i1 : vp_in (8 * nI s + bg (nI e).toNatClampNeg) 64 := by rw [hbg]; exact wk_iy (by omega) (by decide)
  have i2 : vp_in (8 * nI s + nI v) 64 := wk_iy (by omega) (by decide)
  have c1 : (8 * nI s + bg (nI e).toNatClampNeg).toNatClampNeg = 8 * s + b := by rw [hbg]; exact wk_cy hs hb8
  rw [if_pos (c := (n = 2 ∨ la e = n) ∧ ¬ i = 0 ∧ en e = nI v) ⟨hf, h1, h2⟩] at K
  refine ⟨hin, i1, i2, i1, nm_e (nm_r (nI_1 c) (nm_r (nI_1 e) (K _ ?_)))⟩
  refine wk_Yu hT hs hb8 c1 ?_ ?_
  · rw [c1, wk_cy hs hv, hT s b hs hb8, hN s v hs hv, nI_add]
    rw [if_pos rfl, if_pos ⟨hf, h1, h2, hb2⟩, Nat.one_mul]
  · intro t y ht hy hne
    show T t y + (if t = s then (if (n = 2 ∨ la e = n) ∧ ¬ i = 0 ∧ en e = nI v ∧ bg e = nI y then 1 else 0) * M s v else 0) = T t y
    by_cases q : t = s
    · have : ¬ y = b := fun w => hne ⟨q, w⟩
      rw [if_pos q, if_neg (c := (n = 2 ∨ la e = n) ∧ ¬ i = 0 ∧ en e = nI v ∧ bg e = nI y) (fun w => this ((nI_eq (by omega) (by omega)).mp (w.2.2.2.symm.trans hb2))), Nat.zero_mul, Nat.add_zero]
    · rw [if_neg q, Nat.add_zero]
theorem ys_36 {post : Int32 → SY → Prop} {J : Int32 → Int32 → (Nat → Int32) → (Nat → Int32) → (Nat → Int32) → (Nat → Int32) → (Nat → Int32) → (Nat → Int32) → (Nat → Int32) → (Nat → Int32) → Prop}
    {T M : Nat → Nat → Nat} {s v e c : Nat} {n o i z : Int32} (hs : s < 8) (hv : v < 8) (he : e < 10) (hb : ∃ b, b < 8 ∧ bg e = nI b) (hd : ∃ b, b < 8 ∧ en e = nI b) (hN : wk_Y nw M) (hT : wk_Y th T) (hz : z = 0 ↔ ¬ (n = 2 ∨ la e = n))
    (K : ∀ h', wk_Y h' (fun t x => T t x + if t = s then wk_y1 n o i bg en la v x e * M s v else 0) → J (nI (c + wk_y0 n o i bg en la v e)) (nI (e + 1)) mk bg en la kd nu nw h') :
    wY_send_36 post J (nI s) (nI v) n o i (nI c) (nI e) z (nI ec) sz st mk bg en la kd nu nw th := by
  have hc : (nI e).toNatClampNeg = e := nI_clamp (by omega)
  have hin : vp_in (nI e) 10 := vp_in_nI he (by decide)
  have N : ¬ ((n = 2 ∨ la e = n) ∧ ¬ o = 0 ∧ bg e = nI v) → wY_send_93 post J (nI s) (nI v) n o i (nI c) (nI e) z (nI ec) sz st mk bg en la kd nu nw th := by
    intro h
    refine ys_93 hs hv he hb hN hT hz fun h' hh => ?_
    have k := K h' (wk_Yc hh fun t x _ _ => ?_)
    · unfold wk_y0 at k
      rw [if_neg h, Nat.zero_add] at k
      exact k
    · show T t x + (if t = s then (if (n = 2 ∨ la e = n) ∧ ¬ i = 0 ∧ en e = nI v ∧ bg e = nI x then 1 else 0) * M s v else 0) = T t x + (if t = s then wk_y1 n o i bg en la v x e * M s v else 0)
      unfold wk_y1
      rw [if_neg (c := (n = 2 ∨ la e = n) ∧ ¬ o = 0 ∧ bg e = nI v ∧ en e = nI x) (fun q => h ⟨q.1, q.2.1, q.2.2.1⟩), Nat.zero_add]
  refine br_c (fun h0 => N fun q => hz.mp h0 q.1) (fun h0 => br_c (fun h1 => N fun q => q.2.1 h1) (fun h1 => ⟨hin, br_c (fun h2 => ?_) (fun h2 => N fun q => h2 (by rw [hc]; exact q.2.2))⟩))
  rw [hc] at h2
  obtain ⟨d, hd8, hd2⟩ := hd
  have hen : en (nI e).toNatClampNeg = nI d := by rw [hc]; exact hd2
  have hf : n = 2 ∨ la e = n := by
    by_cases q : n = 2 ∨ la e = n
    · exact q
    · exact absurd (hz.mpr q) h0
  have i1 : vp_in (8 * nI s + en (nI e).toNatClampNeg) 64 := by rw [hen]; exact wk_iy (by omega) (by decide)
  have i2 : vp_in (8 * nI s + nI v) 64 := wk_iy (by omega) (by decide)
  have c1 : (8 * nI s + en (nI e).toNatClampNeg).toNatClampNeg = 8 * s + d := by rw [hen]; exact wk_cy hs hd8
  have hU : wk_Y (upd th (8 * nI s + en (nI e).toNatClampNeg).toNatClampNeg (th (8 * nI s + en (nI e).toNatClampNeg).toNatClampNeg + nw (8 * nI s + nI v).toNatClampNeg)) (fun t x => T t x + if t = s then (if (n = 2 ∨ la e = n) ∧ ¬ o = 0 ∧ bg e = nI v ∧ en e = nI x then 1 else 0) * M s v else 0) := by
    refine wk_Yu hT hs hd8 c1 ?_ ?_
    · rw [c1, wk_cy hs hv, hT s d hs hd8, hN s v hs hv, nI_add]
      rw [if_pos rfl, if_pos ⟨hf, h1, h2, hd2⟩, Nat.one_mul]
    · intro t y ht hy hne
      show T t y + (if t = s then (if (n = 2 ∨ la e = n) ∧ ¬ o = 0 ∧ bg e = nI v ∧ en e = nI y then 1 else 0) * M s v else 0) = T t y
      by_cases q : t = s
      · have : ¬ y = d := fun w => hne ⟨q, w⟩
        rw [if_pos q, if_neg (c := (n = 2 ∨ la e = n) ∧ ¬ o = 0 ∧ bg e = nI v ∧ en e = nI y) (fun w => this ((nI_eq (by omega) (by omega)).mp (w.2.2.2.symm.trans hd2))), Nat.zero_mul, Nat.add_zero]
      · rw [if_neg q, Nat.add_zero]
  refine ⟨hin, i1, i2, i1, nm_e (nm_r (nI_1 c) (ys_93 hs hv he hb hN hU hz fun h' hh => ?_))⟩
  have k := K h' (wk_Yc hh fun t x _ _ => ?_)
  · unfold wk_y0 at k
    rw [if_pos (c := (n = 2 ∨ la e = n) ∧ ¬ o = 0 ∧ bg e = nI v) ⟨hf, h1, h2⟩, ← Nat.add_assoc] at k
    exact k
  · show T t x + (if t = s then (if (n = 2 ∨ la e = n) ∧ ¬ o = 0 ∧ bg e = nI v ∧ en e = nI x then 1 else 0) * M s v else 0) + (if t = s then (if (n = 2 ∨ la e = n) ∧ ¬ i = 0 ∧ en e = nI v ∧ bg e = nI x then 1 else 0) * M s v else 0) = T t x + (if t = s then wk_y1 n o i bg en la v x e * M s v else 0)
    by_cases q : t = s
    · rw [if_pos q, if_pos q, if_pos q]
      unfold wk_y1
      rw [Nat.add_mul, Nat.add_assoc]
    · rw [if_neg q, if_neg q, if_neg q]
theorem ys_send {post : Int32 → SY → Prop} {T M : Nat → Nat → Nat} {s v : Nat} {n o i : Int32} (hec : ec ≤ 10) (hs : s < 8) (hv : v < 8)
    (hE : ∀ e, e < ec → (∃ a, a < 8 ∧ bg e = nI a) ∧ (∃ b, b < 8 ∧ en e = nI b) ∧ (la e = 0 ∨ la e = 1)) (hN : wk_Y nw M) (hT : wk_Y th T)
    (K : ∀ h', wk_Y h' (fun t x => T t x + if t = s then wk_s (wk_y1 n o i bg en la v x) ec * M s v else 0) → post (nI (wk_s (wk_y0 n o i bg en la v) ec)) (nI ec, sz, st, mk, bg, en, la, kd, nu, nw, h')) :
    wpY_send post (nI ec, sz, st, mk, bg, en, la, kd, nu, nw, th) (nI s) (nI v) n o i := by
  refine loop_0 (fun m e (p : Int32 × (Nat → Int32)) => wY_send_6 post (nI s) (nI v) n o i (nI ec) sz st m p.1 (nI e) mk bg en la kd nu nw p.2) (fun e p => p.1 = nI (wk_s (wk_y0 n o i bg en la v) e) ∧ wk_Y p.2 (fun t x => T t x + if t = s then wk_s (wk_y1 n o i bg en la v x) e * M s v else 0)) ec (0, th) ?_ ?_ ?_
  · refine ⟨rfl, wk_Yc hT fun t x _ _ => ?_⟩
    show T t x = T t x + if t = s then 0 * M s v else 0
    rw [Nat.zero_mul]
    split <;> rfl
  · intro m p hI
    refine br_t (nI_le (Nat.le_refl _) (by omega)) ?_
    rw [hI.1]
    exact K p.2 hI.2
  · intro m e p he hI L
    obtain ⟨ha, hb, hl⟩ := hE e he
    have hc : (nI e).toNatClampNeg = e := nI_clamp (by omega)
    have G : ∀ z : Int32, (z = 0 ↔ ¬ (n = 2 ∨ la e = n)) → wY_send_36 post (wY_send_6 post (nI s) (nI v) n o i (nI ec) sz st m) (nI s) (nI v) n o i p.1 (nI e) z (nI ec) sz st mk bg en la kd nu nw p.2 := by
      intro z hz
      rw [hI.1]
      refine ys_36 hs hv (by omega) ha hb hN hI.2 hz fun h' hh => L (_, h') ⟨rfl, wk_Yc hh fun t x _ _ => ?_⟩
      show T t x + (if t = s then wk_s (wk_y1 n o i bg en la v x) e * M s v else 0) + (if t = s then wk_y1 n o i bg en la v x e * M s v else 0) = T t x + (if t = s then (wk_s (wk_y1 n o i bg en la v x) e + wk_y1 n o i bg en la v x e) * M s v else 0)
      by_cases q : t = s
      · rw [if_pos q, if_pos q, if_pos q, Nat.add_mul, Nat.add_assoc]
      · rw [if_neg q, if_neg q, if_neg q]
    have n10 : ¬ (1 : Int32) = 0 := by decide
    refine br_f (nI_ge he (by omega)) (br_c (fun h2 => G 1 ⟨fun q => absurd q n10, fun q => absurd (Or.inl h2) q⟩) (fun h2 => ⟨vp_in_nI (by omega) (by decide), br_c (fun h1 => G 1 ⟨fun q => absurd q n10, fun q => absurd (Or.inr (by rw [← hc]; exact h1)) q⟩) (fun h1 => G 0 ⟨fun _ q => q.elim h2 (fun r => h1 (by rw [hc]; exact r)), fun _ => rfl⟩)⟩))
theorem ys_lesser {post : Int32 → Prop} {M : Nat → Nat → Nat} {s v : Nat} (hM : ∀ s w, s < 8 → w < 8 → M s w < 2 ^ 31) (hs : s < 8) (hv : v < 8) (hN : wk_Y nw M)
    (h0 : wk_s (fun r => M r v) s = 0 → post 0) (h1 : ¬ wk_s (fun r => M r v) s = 0 → post 1) : wpY_lesser post (nI ec, sz, st, mk, bg, en, la, kd, nu, nw, th) (nI s) (nI v) := by
  refine loop_0 (fun m i x => wY_lesser_5 post (nI s) (nI v) (nI ec) sz st mk bg en la kd nu nw th m x (nI i)) (fun i x => x = (if wk_s (fun r => M r v) i = 0 then 0 else 1)) s 0 rfl ?_ ?_
  · intro m x hI
    refine br_t (nI_le (Nat.le_refl _) (by omega)) ?_
    by_cases z : wk_s (fun r => M r v) s = 0
    · rw [if_pos z] at hI
      rw [hI]
      exact ⟨rfl, h0 z⟩
    · rw [if_neg z] at hI
      rw [hI]
      exact ⟨rfl, h1 z⟩
  · intro m i x hi hI L
    have hsum : wk_s (fun r => M r v) (i + 1) = wk_s (fun r => M r v) i + M i v := rfl
    have hval : nw (8 * nI i + nI v).toNatClampNeg = nI (M i v) := by rw [wk_cy (by omega) hv]; exact hN i v (by omega) hv
    have n10 : ¬ (1 : Int32) = 0 := by decide
    have n01 : ¬ (0 : Int32) = 1 := by decide
    refine br_f (nI_ge hi (by omega)) (br_c (fun hx => ⟨wk_iy (by omega) (by decide), br_c (fun hle => nm_r (nI_1 i) (L 0 ?_)) (fun hgt => nm_r (nI_1 i) (L 1 ?_))⟩) (fun hx => nm_r (nI_1 i) (L 1 ?_)))
    · have s0 : wk_s (fun r => M r v) i = 0 := by
        by_cases z : wk_s (fun r => M r v) i = 0
        · exact z
        · rw [if_neg z] at hI
          exact absurd (hI.symm.trans hx) n10
      have m0 : M i v = 0 := by
        by_cases z : M i v = 0
        · exact z
        · exfalso
          rw [hval] at hle
          exact nI_nle (by omega) (hM i v (by omega) hv) hle
      rw [hsum, s0, m0]; rfl
    · have m0 : ¬ M i v = 0 := by
        intro z
        rw [hval, z] at hgt
        exact hgt (by decide)
      rw [if_neg (by rw [hsum]; omega)]
    · have s1 : ¬ wk_s (fun r => M r v) i = 0 := by
        intro z
        rw [if_pos z] at hI
        exact hx hI
      rw [if_neg (by rw [hsum]; omega)]
end
end
section
section
variable {ec : Nat} {sz st : Int32} {mk ow iw bg en la kd nu nw th : Nat → Int32}
theorem ys_44 {post : SY → Prop} {T M : Nat → Nat → Nat} {s v : Nat} {κ n o i : Int32} (hec : ec ≤ 10) (hs : s < 8) (hv : v < 8) (hE : wk_E ec ow iw bg en la) (hN : wk_Y nw M) (hT : wk_Y th T)
    (ho : o = if κ = 1 then 0 else 1) (hi : i = if κ = 1 ∨ κ = 2 then 1 else 0) (hn : n = 0 ∨ n = 1 ∨ n = 2)
    (K : ∀ h', wk_Y h' (fun t x => T t x + if t = s then wk_G κ n ow iw v x * M s v else 0) → post (nI ec, sz, st, mk, bg, en, la, kd, nu, nw, h')) : wY_step_44 post κ (nI (8 * s + v)) i o n (nI v) (nI s) (nI ec) sz st mk bg en la kd nu nw th := by
  have hin : vp_in (nI (8 * s + v)) 64 := vp_in_nI (by omega) (by decide)
  have hcl : (nI (8 * s + v)).toNatClampNeg = 8 * s + v := nI_clamp (by omega)
  have hz : ∀ e, e < ec → wk_y0 n o i bg en la v e ≤ 2 := by
    intro e _
    unfold wk_y0
    split <;> split <;> omega
  have hlt : wk_s (wk_y0 n o i bg en la v) ec < 2 ^ 31 := by
    have := wk_le (g := fun _ => 2) hz
    rw [wk_cst] at this
    omega
  have cG : ∀ x, x < 8 → wk_s (wk_y1 n o i bg en la v x) ec + (if κ = 3 ∧ wk_s (wk_y0 n o i bg en la v) ec = 0 ∧ x = v then 1 else 0) = wk_G κ n ow iw v x := fun x hx => wk_coG hE ho hi hn hv hx
  have N : ¬ (κ = 3 ∧ wk_s (wk_y0 n o i bg en la v) ec = 0) → ∀ h', wk_Y h' (fun t x => T t x + if t = s then wk_s (wk_y1 n o i bg en la v x) ec * M s v else 0) → post (nI ec, sz, st, mk, bg, en, la, kd, nu, nw, h') := by
    intro h h' hh
    refine K h' (wk_Yc hh fun t x _ hx => ?_)
    show T t x + (if t = s then wk_s (wk_y1 n o i bg en la v x) ec * M s v else 0) = T t x + (if t = s then wk_G κ n ow iw v x * M s v else 0)
    have := cG x hx
    rw [if_neg (fun q => h ⟨q.1, q.2.1⟩), Nat.add_zero] at this
    rw [this]
  refine ys_send hec hs hv hE.2.2.1 hN hT fun h' hh => br_c (fun h3 => br_c (fun h0 => ⟨hin, hin, hin, nm_e (K _ ?_)⟩) (fun h0 => N (fun q => h0 (by rw [q.2]; rfl)) h' hh)) (fun h3 => N (fun q => h3 q.1) h' hh)
  have m0 : wk_s (wk_y0 n o i bg en la v) ec = 0 := by
    by_cases q : wk_s (wk_y0 n o i bg en la v) ec = 0
    · exact q
    · exact absurd h0 (nI_ne0 (by omega) hlt)
  refine wk_Yu hh hs hv hcl ?_ ?_
  · rw [hcl, hh s v hs hv, hN s v hs hv, nI_add]
    have := cG v hv
    rw [if_pos ⟨h3, m0, rfl⟩] at this
    dsimp only
    rw [if_pos rfl, if_pos rfl, ← this, Nat.add_mul, Nat.one_mul, Nat.add_assoc]
  · intro t y ht hy hne
    show T t y + (if t = s then wk_G κ n ow iw v y * M s v else 0) = T t y + (if t = s then wk_s (wk_y1 n o i bg en la v y) ec * M s v else 0)
    by_cases q : t = s
    · have := cG y hy
      rw [if_neg (fun w => hne ⟨q, w.2.2⟩), Nat.add_zero] at this
      rw [this]
    · rw [if_neg q, if_neg q]
theorem ys_stepM {post : SY → Prop} {T M : Nat → Nat → Nat} {s v : Nat} {κ n : Int32} (hec : ec ≤ 10) (hs : s < 8) (hv : v < 8) (hE : wk_E ec ow iw bg en la) (hN : wk_Y nw M) (hT : wk_Y th T)
    (h3 : ¬ 3 < κ) (hn : n = 0 ∨ n = 1 ∨ n = 2)
    (K : ∀ h', wk_Y h' (fun t x => T t x + if t = s then wk_G κ n ow iw v x * M s v else 0) → post (nI ec, sz, st, mk, bg, en, la, kd, nu, nw, h')) : wpY_step post (nI ec, sz, st, mk, bg, en, la, kd, nu, nw, th) κ n (nI s) (nI v) := by
  have A : ∀ o : Int32, o = (if κ = 1 then 0 else 1) → wY_step_29 post κ (nI (8 * s + v)) o n (nI v) (nI s) (nI ec) sz st mk bg en la kd nu nw th := by
    intro o ho
    refine br_c (fun h1 => ?_) (fun h1 => br_c (fun h2 => ?_) (fun h2 => ?_))
    · exact ys_44 hec hs hv hE hN hT ho (if_pos (Or.inl h1)).symm hn K
    · exact ys_44 hec hs hv hE hN hT ho (if_pos (Or.inr h2)).symm hn K
    · exact ys_44 hec hs hv hE hN hT ho (if_neg (fun q => q.elim h1 h2)).symm hn K
  exact nm_r (wk_ny s v) (br_f h3 (br_c (fun h1 => A 0 (if_pos h1).symm) (fun h1 => A 1 (if_neg h1).symm)))
theorem ys_stepF {post : SY → Prop} {T M : Nat → Nat → Nat} {s v : Nat} {κ n n' : Int32} (hs : s < 8) (hv : v < 8) (hM : ∀ s w, s < 8 → w < 8 → M s w < 2 ^ 31) (hN : wk_Y nw M) (hT : wk_Y th T) (hT0 : T s v = 0) (hp : 0 < M s v)
    (h3 : 3 < κ) (hn : κ = 4 → n' = n)
    (K : ∀ h', wk_Y h' (fun t x => if t = s ∧ x = v then (if κ = 7 then wk_K M s v else wk_F κ n mk M s v) else T t x) → post (nI ec, sz, st, mk, bg, en, la, kd, nu, nw, h')) : wpY_step post (nI ec, sz, st, mk, bg, en, la, kd, nu, nw, th) κ n' (nI s) (nI v) := by
  have hin : vp_in (nI (8 * s + v)) 64 := vp_in_nI (by omega) (by decide)
  have hcl : (nI (8 * s + v)).toNatClampNeg = 8 * s + v := nI_clamp (by omega)
  have U : ∀ c : Nat, c = (if κ = 7 then wk_K M s v else wk_F κ n mk M s v) → wk_Y (upd th (nI (8 * s + v)).toNatClampNeg (nI c)) (fun t x => if t = s ∧ x = v then (if κ = 7 then wk_K M s v else wk_F κ n mk M s v) else T t x) := by
    intro c hc
    refine wk_Yu hT hs hv hcl ?_ ?_
    · rw [if_pos (c := s = s ∧ v = v) ⟨rfl, rfl⟩, hc]
    · intro t y _ _ hne
      rw [if_neg hne]
  have Z : (if κ = 7 then wk_K M s v else wk_F κ n mk M s v) = 0 → post (nI ec, sz, st, mk, bg, en, la, kd, nu, nw, th) := by
    intro hz
    refine K th (wk_Yc hT fun t x _ _ => ?_)
    show T t x = if t = s ∧ x = v then (if κ = 7 then wk_K M s v else wk_F κ n mk M s v) else T t x
    by_cases q : t = s ∧ x = v
    · rw [if_pos q, hz, q.1, q.2, hT0]
    · rw [if_neg q]
  have P : (if κ = 7 then wk_K M s v else wk_F κ n mk M s v) = M s v → wY_step_159 post (nI (8 * s + v)) (nI ec) sz st mk bg en la kd nu nw th := by
    intro hz
    refine ⟨hin, hin, nm_e (K _ ?_)⟩
    have : nw (nI (8 * s + v)).toNatClampNeg = nI (M s v) := by rw [hcl]; exact hN s v hs hv
    rw [this]
    exact U _ hz.symm
  refine nm_r (wk_ny s v) (br_t h3 (br_c (fun h7 => ⟨hin, br_c (fun hle => ?_) (fun hgt => ?_)⟩) (fun h7 => br_c (fun h4 => ⟨vp_in_nI hv (by decide), br_c (fun hlt => Z ?_) (fun hlt => P ?_)⟩) (fun h4 => br_c (fun h5 => br_c (fun he => Z ?_) (fun he => P ?_)) (fun h5 => br_c (fun he => P ?_) (fun he => Z ?_))))))
  · exfalso
    rw [hcl, hN s v hs hv] at hle
    exact nI_nle hp (hM s v hs hv) hle
  · refine ys_lesser hM hs hv hN (fun h0 => br_t (c := (0 : Int32) = 0) rfl ⟨hin, nm_e (K _ (U 1 ?_))⟩) (fun h0 => br_f (c := (1 : Int32) = 0) (by decide) ⟨hin, nm_e (K _ (U 0 ?_))⟩)
    · rw [if_pos h7]
      unfold wk_K
      rw [if_pos ⟨hp, h0⟩]
    · rw [if_pos h7]
      unfold wk_K
      rw [if_neg (fun q => h0 q.2)]
  · rw [nI_clamp (by omega), hn h4] at hlt
    rw [if_neg h7]
    unfold wk_F
    rw [if_pos h4, if_pos hlt]
  · rw [nI_clamp (by omega), hn h4] at hlt
    rw [if_neg h7]
    unfold wk_F
    rw [if_pos h4, if_neg hlt]
  · have e : s = v := (nI_eq (by omega) (by omega)).mp he
    rw [if_neg h7]
    unfold wk_F
    rw [if_neg h4, if_pos h5, if_pos e]
  · have e : ¬ s = v := fun q => he (by rw [q])
    rw [if_neg h7]
    unfold wk_F
    rw [if_neg h4, if_pos h5, if_neg e]
  · have e : s = v := (nI_eq (by omega) (by omega)).mp he
    rw [if_neg h7]
    unfold wk_F
    rw [if_neg h4, if_neg h5, if_pos e]
  · have e : ¬ s = v := fun q => he (by rw [q])
    rw [if_neg h7]
    unfold wk_F
    rw [if_neg h4, if_neg h5, if_neg e]
theorem ys_60 {post : SY → Prop} {T : Nat → Nat → Nat} (hT : wk_Y th T) (K : ∀ m', wk_Y m' T → post (nI ec, sz, st, mk, bg, en, la, kd, nu, m', th)) : ∃ n60 : Nat, wY_once_60 post (nI ec) sz st n60 0 mk bg en la kd nu nw th := by
  refine loop_0 (fun m i h => wY_once_60 post (nI ec) sz st m (nI i) mk bg en la kd nu h th) (fun i h => ∀ j, j < i → h j = th j) 64 nw (fun j hj => absurd hj (Nat.not_lt_zero j)) ?_ ?_
  · intro m h hI
    refine br_t wk_le64 (K h fun s w hs hw => ?_)
    rw [hI (8 * s + w) (by omega)]
    exact hT s w hs hw
  · intro m i h hi hI L
    refine br_f (wk_ge64 hi) ⟨vp_in_nI hi (by decide), vp_in_nI hi (by decide), nm_e (nm_r (nI_1 i) (L _ fun j hj => ?_))⟩
    rw [nI_clamp (by omega)]
    by_cases e : j = i
    · rw [e, pk_us]
    · rw [pk_un e]; exact hI j (by omega)
theorem ys_23 {post : SY → Prop} {κ n : Int32} {M : Nat → Nat → Nat} (T : Nat → Nat → Nat → Nat) (hM : ∀ s w, s < 8 → w < 8 → M s w < 2 ^ 31) (hN : wk_Y nw M) (h0 : wk_Y th (T 0))
    (hz : ∀ c, c < 64 → M (c / 8) (c % 8) = 0 → ∀ t x, t < 8 → x < 8 → T c t x = T (c + 1) t x)
    (hs : ∀ c, c < 64 → 0 < M (c / 8) (c % 8) → ∀ (h : Nat → Int32) (Q : SY → Prop), wk_Y h (T c) → (∀ h', wk_Y h' (T (c + 1)) → Q (nI ec, sz, st, mk, bg, en, la, kd, nu, nw, h')) → wpY_step Q (nI ec, sz, st, mk, bg, en, la, kd, nu, nw, h) κ n (nI (c / 8)) (nI (c % 8)))
    (K : ∀ m' h', wk_Y m' (T 64) → post (nI ec, sz, st, mk, bg, en, la, kd, nu, m', h')) : ∃ n23 : Nat, wY_once_23 post κ n n23 0 (nI ec) sz st mk bg en la kd nu nw th := by
  refine loop_0 (fun m i h => wY_once_23 post κ n m (nI i) (nI ec) sz st mk bg en la kd nu nw h) (fun i h => wk_Y h (T i)) 64 th h0 ?_ ?_
  · intro m h hI
    exact br_t wk_le64 (ys_60 hI fun m' hm => K m' h hm)
  · intro m i h hi hI L
    have hval : nw (nI i).toNatClampNeg = nI (M (i / 8) (i % 8)) := by rw [nI_clamp (by omega)]; exact wk_Yj hN hi
    refine br_f (wk_ge64 hi) ⟨vp_in_nI hi (by decide), br_c (fun hle => nm_r (nI_1 i) (L h (wk_Yc hI (hz i hi ?_)))) (fun hgt => ⟨wk_n8, wk_n8, ?_⟩)⟩
    · by_cases q : M (i / 8) (i % 8) = 0
      · exact q
      · exfalso
        rw [hval] at hle
        exact nI_nle (by omega) (hM _ _ (by omega) (by omega)) hle
    · have hp : 0 < M (i / 8) (i % 8) := by
        by_cases q : M (i / 8) (i % 8) = 0
        · exfalso
          rw [hval, q] at hgt
          exact hgt (by decide)
        · omega
      rw [wk_r8 hi, wk_d8 hi]
      exact hs i hi hp h _ hI fun h' hh => nm_r (nI_1 i) (L h' hh)
theorem ys_once {post : SY → Prop} {κ n n' : Int32} {M : Nat → Nat → Nat} (hec : ec ≤ 10) (hE : wk_E ec ow iw bg en la) (hM : ∀ s w, s < 8 → w < 8 → M s w < 2 ^ 31) (hN : wk_Y nw M)
    (h3 : ¬ 3 < κ → n' = n ∧ (n = 0 ∨ n = 1 ∨ n = 2)) (h4 : κ = 4 → n' = n)
    (K : ∀ m' h', wk_Y m' (wk_S κ n mk ow iw M) → post (nI ec, sz, st, mk, bg, en, la, kd, nu, m', h')) : wpY_once post (nI ec, sz, st, mk, bg, en, la, kd, nu, nw, th) κ n' := by
  refine loop_0 (fun m i h => wY_once_2 post κ n' (nI ec) sz st m (nI i) mk bg en la kd nu nw h) (fun i h => ∀ j, j < i → h j = 0) 64 th (fun j hj => absurd hj (Nat.not_lt_zero j)) ?_ ?_
  · intro m h hI
    refine br_t wk_le64 ?_
    by_cases c : 3 < κ
    · refine ys_23 (M := M) (fun c t x => if 8 * t + x < c then (if κ = 7 then wk_K M t x else wk_F κ n mk M t x) else 0) hM hN ?_ ?_ ?_ ?_
      · intro s w hs hw
        rw [hI (8 * s + w) (by omega)]
        dsimp only
        rw [if_neg (c := 8 * s + w < 0) (by omega)]; rfl
      · intro i hi h0 t x ht hx
        show (if 8 * t + x < i then (if κ = 7 then wk_K M t x else wk_F κ n mk M t x) else 0) = (if 8 * t + x < i + 1 then (if κ = 7 then wk_K M t x else wk_F κ n mk M t x) else 0)
        by_cases e : 8 * t + x < i
        · rw [if_pos e, if_pos (c := 8 * t + x < i + 1) (by omega)]
        · by_cases e2 : 8 * t + x = i
          · rw [if_neg e, if_pos (c := 8 * t + x < i + 1) (by omega)]
            have e3 : t = i / 8 := by omega
            have e4 : x = i % 8 := by omega
            have m0 : M t x = 0 := by rw [e3, e4]; exact h0
            have k0 := wk_Kle M t x
            have f0 := wk_Fle κ n mk M t x
            split <;> omega
          · rw [if_neg e, if_neg (c := 8 * t + x < i + 1) (by omega)]
      · intro i hi hp h1 Q hh L
        refine ys_stepF (n := n) (T := fun t x => if 8 * t + x < i then (if κ = 7 then wk_K M t x else wk_F κ n mk M t x) else 0) (by omega) (by omega) hM hN hh (if_neg (by omega)) hp c h4 fun h' hh' => L h' (wk_Yc hh' fun t x ht hx => ?_)
        show (if t = i / 8 ∧ x = i % 8 then (if κ = 7 then wk_K M (i / 8) (i % 8) else wk_F κ n mk M (i / 8) (i % 8)) else (if 8 * t + x < i then (if κ = 7 then wk_K M t x else wk_F κ n mk M t x) else 0)) = (if 8 * t + x < i + 1 then (if κ = 7 then wk_K M t x else wk_F κ n mk M t x) else 0)
        by_cases e2 : t = i / 8 ∧ x = i % 8
        · rw [if_pos e2, if_pos (c := 8 * t + x < i + 1) (by omega), e2.1, e2.2]
        · rw [if_neg e2]
          by_cases e : 8 * t + x < i
          · rw [if_pos e, if_pos (c := 8 * t + x < i + 1) (by omega)]
          · rw [if_neg e, if_neg (c := 8 * t + x < i + 1) (by omega)]
      · intro m' h' hh
        refine K m' h' (wk_Yc hh fun t x ht hx => ?_)
        show (if 8 * t + x < 64 then (if κ = 7 then wk_K M t x else wk_F κ n mk M t x) else 0) = wk_S κ n mk ow iw M t x
        unfold wk_S
        rw [if_pos (c := 8 * t + x < 64) (by omega), if_pos c]
    · obtain ⟨hn, hn2⟩ := h3 c
      subst hn
      refine ys_23 (M := M) (fun c t x => wk_s (fun j => if j / 8 = t then wk_G κ n' ow iw (j % 8) x * M t (j % 8) else 0) c) hM hN ?_ ?_ ?_ ?_
      · intro s w hs hw
        rw [hI (8 * s + w) (by omega)]; rfl
      · intro i hi h0 t x ht hx
        show _ = wk_s (fun j => if j / 8 = t then wk_G κ n' ow iw (j % 8) x * M t (j % 8) else 0) i + (if i / 8 = t then wk_G κ n' ow iw (i % 8) x * M t (i % 8) else 0)
        by_cases e : i / 8 = t
        · rw [if_pos e, ← e, h0, Nat.mul_zero, Nat.add_zero]
        · rw [if_neg e, Nat.add_zero]
      · intro i hi hp h1 Q hh L
        refine ys_stepM hec (by omega) (by omega) hE hN hh c hn2 fun h' hh' => L h' (wk_Yc hh' fun t x ht hx => ?_)
        show wk_s (fun j => if j / 8 = t then wk_G κ n' ow iw (j % 8) x * M t (j % 8) else 0) i + (if t = i / 8 then wk_G κ n' ow iw (i % 8) x * M (i / 8) (i % 8) else 0) = wk_s (fun j => if j / 8 = t then wk_G κ n' ow iw (j % 8) x * M t (j % 8) else 0) i + (if i / 8 = t then wk_G κ n' ow iw (i % 8) x * M t (i % 8) else 0)
        by_cases e : i / 8 = t
        · rw [if_pos e, if_pos e.symm, e]
        · rw [if_neg e, if_neg (fun q => e q.symm)]
      · intro m' h' hh
        refine K m' h' (wk_Yc hh fun t x ht hx => ?_)
        show wk_s (fun j => if j / 8 = t then wk_G κ n' ow iw (j % 8) x * M t (j % 8) else 0) 64 = wk_S κ n' mk ow iw M t x
        unfold wk_S
        rw [if_neg c]
        refine (wk_8 (fun j => if j / 8 = t then wk_G κ n' ow iw (j % 8) x * M t (j % 8) else 0) 8).trans ?_
        rw [wk_one ht (fun j _ hne => wk_z fun b hb => if_neg (by omega))]
        refine wk_cg fun b hb => ?_
        show (if (8 * t + b) / 8 = t then wk_G κ n' ow iw ((8 * t + b) % 8) x * M t ((8 * t + b) % 8) else 0) = wk_G κ n' ow iw b x * M t b
        rw [if_pos (by omega), show (8 * t + b) % 8 = b from by omega]
  · intro m i h hi hI L
    refine br_f (wk_ge64 hi) ⟨vp_in_nI hi (by decide), nm_e (nm_r (nI_1 i) (L _ fun j hj => ?_))⟩
    rw [nI_clamp (by omega)]
    by_cases e : j = i
    · rw [e, pk_us]
    · rw [pk_un e]; exact hI j (by omega)
/-- the plan: kinds, labels of the component, numbers of the reference -/
def wk_P (n : Nat) (kd lb nu : Nat → Int32) : Prop := ∀ k, k < n → ∃ κ, κ ≤ 7 ∧ kd k = nI κ ∧ (κ ≤ 4 → nu k = lb k) ∧ (κ ≤ 3 → lb k = 0 ∨ lb k = 1 ∨ lb k = 2)
theorem ys_walk {post : SY → Prop} {lb : Nat → Int32} {n k : Nat} (hn : n ≤ 6) (hk : k ≤ n) (hec : ec ≤ 10) (hE : wk_E ec ow iw bg en la) (hP : wk_P n kd lb nu)
    (K : ∀ m' h', wk_Y m' (wk_C st mk ow iw kd lb k) → post (nI ec, sz, st, mk, bg, en, la, kd, nu, m', h')) : wpY_walk post (nI ec, sz, st, mk, bg, en, la, kd, nu, nw, th) (nI k) := by
  refine loop_0 (fun m i h => wY_walk_2 post (nI k) (nI ec) sz st m (nI i) mk bg en la kd nu h th) (fun i h => ∀ j, j < i → h j = nI (wk_C st mk ow iw kd lb 0 (j / 8) (j % 8))) 64 nw (fun j hj => absurd hj (Nat.not_lt_zero j)) ?_ ?_
  · intro m h hI
    have hH : wk_Y h (wk_C st mk ow iw kd lb 0) := by
      intro s w hs hw
      rw [hI (8 * s + w) (by omega), show (8 * s + w) % 8 = w from by omega, show (8 * s + w) / 8 = s from by omega]
    refine br_t wk_le64 ?_
    refine loop_0 (fun m i (p : (Nat → Int32) × (Nat → Int32)) => wY_walk_53 post (nI k) m (nI i) (nI ec) sz st mk bg en la kd nu p.1 p.2) (fun i p => wk_Y p.1 (wk_C st mk ow iw kd lb i)) k (h, th) hH ?_ ?_
    · intro m p hI2
      exact br_t (nI_le (Nat.le_refl _) (by omega)) (K p.1 p.2 hI2)
    · intro m i p hi hI2 L
      have hin : vp_in (nI i) 6 := vp_in_nI (by omega) (by decide)
      refine br_f (nI_ge hi (by omega)) ⟨hin, hin, ?_⟩
      rw [nI_clamp (by omega)]
      obtain ⟨κ, h7, e, h4, h3⟩ := hP i (by omega)
      refine ys_once (n := lb i) (M := wk_C st mk ow iw kd lb i) hec hE (fun s w hs hw => wk_Clt st mk ow iw kd lb (by omega) hs hw) hI2 ?_ ?_ fun m' h' hh => nm_r (nI_1 i) (L (m', h') hh)
      · intro hc
        rw [e] at hc
        have : κ ≤ 3 := by
          by_cases q : κ ≤ 3
          · exact q
          · exact absurd (nI_lt (a := 3) (b := κ) (by omega) (by omega)) hc
        exact ⟨h4 (by omega), h3 this⟩
      · intro hc
        rw [e] at hc
        have : κ = 4 := (nI_eq (a := κ) (b := 4) (by omega) (by decide)).mp hc
        exact h4 (by omega)
  · intro m i h hi hI L
    have e1 : nI i / 8 = nI (i / 8) := wk_d8 hi
    have e2 : nI i - nI i / 8 * 8 = nI (i % 8) := wk_r8 hi
    have P : ∀ c : Nat, c = wk_C st mk ow iw kd lb 0 (i / 8) (i % 8) → ∀ j, j < i + 1 → upd h (nI i).toNatClampNeg (nI c) j = nI (wk_C st mk ow iw kd lb 0 (j / 8) (j % 8)) := by
      intro c hc j hj
      rw [nI_clamp (by omega)]
      by_cases e : j = i
      · rw [e, pk_us, hc]
      · rw [pk_un e]; exact hI j (by omega)
    have hin : vp_in (nI i) 64 := vp_in_nI hi (by decide)
    have C : wk_C st mk ow iw kd lb 0 (i / 8) (i % 8) = (if i / 8 = i % 8 then wk_b st (i / 8) else 0) := rfl
    refine br_f (wk_ge64 hi) ⟨wk_n8, wk_n8, br_c (fun hq => ⟨wk_n8, br_c (fun hb => ⟨hin, nm_e (nm_r (nI_1 i) (L _ (P 1 ?_)))⟩) (fun hb => ⟨hin, nm_e (nm_r (nI_1 i) (L _ (P 0 ?_)))⟩)⟩) (fun hq => ⟨hin, nm_e (nm_r (nI_1 i) (L _ (P 0 ?_)))⟩)⟩
    · rw [e1, wk_b1e] at hb
      rw [e2, e1] at hq
      have e : i / 8 = i % 8 := (nI_eq (by omega) (by omega)).mp hq
      rw [C, if_pos e, wk_b1 hb]
    · rw [e1, wk_b1e] at hb
      rw [C]
      split
      · exact (wk_b0 (Decidable.not_not.mp hb)).symm
      · rfl
    · rw [C, if_neg]
      intro z
      apply hq
      rw [e2, e1, z]
end
end
section
/-- the edges of the list have two ends -/
def wk_D (ec : Nat) (bg en : Nat → Int32) : Prop := ∀ e, e < ec → ¬ bg e = en e
def i_Rel (_ : Nat) (u : SX) (v : SY) : Prop := ∃ (ec sz : Nat) (st kn : Int32) (mk ow iw kd lb he be tt bg en la nu nw th : Nat → Int32),
  u = (nI ec, nI sz, st, kn, mk, ow, iw, kd, lb, he, be, tt) ∧ v = (nI ec, nI sz, st, mk, bg, en, la, kd, nu, nw, th) ∧ ec ≤ 10 ∧ sz ≤ 6 ∧ wk_E ec ow iw bg en la ∧ wk_D ec bg en ∧ wk_P sz kd lb nu ∧ (kn = 0 ∨ wk_Q sz st mk ow iw kd lb he tt)
theorem wk_el {P : SX → SY → Prop} {k : Nat} {u : SX} {v : SY} (h : ∀ (ec sz : Nat) (st kn : Int32) (mk ow iw kd lb he be tt bg en la nu nw th : Nat → Int32), ec ≤ 10 → sz ≤ 6 → wk_E ec ow iw bg en la → wk_D ec bg en → wk_P sz kd lb nu → (kn = 0 ∨ wk_Q sz st mk ow iw kd lb he tt) → P (nI ec, nI sz, st, kn, mk, ow, iw, kd, lb, he, be, tt) (nI ec, nI sz, st, mk, bg, en, la, kd, nu, nw, th)) (I : i_Rel k u v) : P u v := by
  obtain ⟨ec, sz, st, kn, mk, ow, iw, kd, lb, he, be, tt, bg, en, la, nu, nw, th, e1, e2, h1, h2, h3, h4, h5, h6⟩ := I
  rw [e1, e2]
  exact h ec sz st kn mk ow iw kd lb he be tt bg en la nu nw th h1 h2 h3 h4 h5 h6
theorem wk_in {k ec sz : Nat} {st kn : Int32} {mk ow iw kd lb he be tt bg en la nu nw th : Nat → Int32} (h1 : ec ≤ 10) (h2 : sz ≤ 6) (h3 : wk_E ec ow iw bg en la) (h4 : wk_D ec bg en) (h5 : wk_P sz kd lb nu) (h6 : kn = 0 ∨ wk_Q sz st mk ow iw kd lb he tt) : i_Rel k (nI ec, nI sz, st, kn, mk, ow, iw, kd, lb, he, be, tt) (nI ec, nI sz, st, mk, bg, en, la, kd, nu, nw, th) :=
  ⟨ec, sz, st, kn, mk, ow, iw, kd, lb, he, be, tt, bg, en, la, nu, nw, th, rfl, rfl, h1, h2, h3, h4, h5, h6⟩
theorem i_up {k : Nat} {u : SX} {v : SY} (h : i_Rel k u v) : i_Rel (k + 4) u v := h
theorem i_vc0 : wpX_init (fun u => wpY_init (fun v => i_Rel 0 u v)) := by
  refine wk_in (k := 0) (ec := 0) (sz := 0) (by decide) (by decide) ?_ (fun e he => absurd he (Nat.not_lt_zero e)) (fun e he => absurd he (Nat.not_lt_zero e)) (Or.inl rfl)
  exact ⟨fun i _ => ⟨0, by decide, rfl⟩, fun i _ => ⟨0, by decide, rfl⟩, fun e he => absurd he (Nat.not_lt_zero e), fun a b l ha hb _ => ⟨wk_bz hb, wk_bz ha⟩⟩
theorem wk_01 : ¬ (1 : Int32) = 0 := by decide
theorem wk_nv {x : Int32} (h : ¬ ∃ j, j < 8 ∧ x = nI j) (h0 : ¬ x < 0) : 8 ≤ x ∧ 7 < x := by
  obtain ⟨j, hj, rfl⟩ := nI_of h0
  have : 8 ≤ j := by
    by_cases q : j < 8
    · exact absurd ⟨j, q, rfl⟩ h
    · omega
  exact ⟨nI_le (a := 8) (b := j) this hj, nI_lt (a := 7) (b := j) (by omega) hj⟩
theorem xv1 {post : Int32 → Prop} {j : Nat} (hj : j < 8) (h : post 1) : wpX_isVertex post (nI j) :=
  br_f (nI_pos (by omega)) (br_f (wk_ge8 hj) h)
theorem xv0 {post : Int32 → Prop} {x : Int32} (hx : ¬ ∃ j, j < 8 ∧ x = nI j) (h : post 0) : wpX_isVertex post x :=
  br_c (fun _ => h) (fun z => br_t (wk_nv hx z).1 h)
theorem yv1 {post : Int32 → Prop} {v : SY} {j : Nat} (hj : j < 8) (h : post 1) : wpY_vertex post v (nI j) :=
  br_f (nI_pos (by omega)) (br_f (nI_nlt (a := 7) (b := j) (by omega) (by decide)) h)
theorem yv0 {post : Int32 → Prop} {v : SY} {x : Int32} (hx : ¬ ∃ j, j < 8 ∧ x = nI j) (h : post 0) : wpY_vertex post v x :=
  br_c (fun _ => h) (fun z => br_t (wk_nv hx z).2 h)
theorem wk_by {n : Nat} (h : n ≤ 100) : vp_nar .byte (nI n).toInt8.toInt32 = nI n := by
  rw [pk_vb]
  exact lg_i2b_small (by rw [nI_toInt (by omega)]; omega) (by rw [nI_toInt (by omega)]; omega)
theorem i_vc_mark {k : Nat} {u : SX} {v : SY} (I : i_Rel k u v) (hk : k + 4 ≤ 2048) (v1 : Int32) (v2 : Int32) : wpX_mark (fun r u' => wpY_mark (fun r' v' => r' = r ∧ i_Rel (k + 4) u' v') v v1 v2) u v1 v2 := by
  refine wk_el (P := fun u v => wpX_mark (fun r u' => wpY_mark (fun r' v' => r' = r ∧ i_Rel (k + 4) u' v') v v1 v2) u v1 v2) ?_ I
  intro ec sz st kn mk ow iw kd lb he be tt bg en la nu nw th h1 h2 hE hD hP hQ
  have S : i_Rel (k + 4) (nI ec, nI sz, st, kn, mk, ow, iw, kd, lb, he, be, tt) (nI ec, nI sz, st, mk, bg, en, la, kd, nu, nw, th) := wk_in h1 h2 hE hD hP hQ
  unfold wpX_mark wpY_mark
  dsimp only
  by_cases hv : ∃ j, j < 8 ∧ v1 = nI j
  · obtain ⟨j, hj, rfl⟩ := hv
    refine xv1 hj (br_f wk_01 (br_c (fun hn => yv1 hj (br_f wk_01 (br_t hn ⟨rfl, S⟩))) (fun hn => br_c (fun h9 => ?_) (fun h9 => yv1 hj (br_f wk_01 (br_f hn (br_f h9 ⟨rfl, S⟩)))))))
    refine ⟨vp_in_nI hj (by decide), nm_e (yv1 hj (br_f wk_01 (br_f hn (br_t h9 ⟨vp_in_nI hj (by decide), nm_e ⟨rfl, ?_⟩⟩))))⟩
    obtain ⟨n, hn9, rfl⟩ := nI_of2 (M := 9) (n := 9) (by decide) hn h9
    rw [wk_by (by omega)]
    exact wk_in h1 h2 hE hD hP (Or.inl rfl)
  · exact xv0 hv (br_t (c := (0 : Int32) = 0) rfl (yv0 hv (br_t (c := (0 : Int32) = 0) rfl ⟨rfl, S⟩)))
theorem wk_Padd {n κ : Nat} {kd lb nu : Nat → Int32} {q x : Int32} (hP : wk_P n kd lb nu) (h7 : κ ≤ 7) (h4 : κ ≤ 4 → x = q) (h3 : κ ≤ 3 → q = 0 ∨ q = 1 ∨ q = 2) : wk_P (n + 1) (upd kd n (nI κ)) (upd lb n q) (upd nu n x) := by
  intro k hk
  by_cases e : k = n
  · subst e
    exact ⟨κ, h7, pk_us, fun z => by rw [pk_us, pk_us]; exact h4 z, fun z => by rw [pk_us]; exact h3 z⟩
  · rw [pk_un e, pk_un e, pk_un e]
    exact hP k (by omega)
section
variable {ec sz : Nat} {st kn : Int32} {mk ow iw kd lb he be tt bg en la nu nw th : Nat → Int32}
theorem xa_100 {post : Int32 → SX → Prop} {n : Nat} (hs : sz < 6) (hn : n ≤ 100) (h : post (nI (sz + 1)) (nI ec, nI (sz + 1), st, 0, mk, ow, iw, kd, upd lb sz (nI n), he, be, tt)) : wX_add_100 post (nI n) (nI sz) (nI ec) (nI sz) st kn mk ow iw kd lb he be tt := by
  refine ⟨vp_in_nI hs (by decide), nm_r (e' := upd lb sz (nI n)) ?_ (nm_r (nI_1 sz) h)⟩
  rw [wk_by hn, nI_clamp (by omega)]
theorem xa_55 {post : Int32 → SX → Prop} {κ n : Nat} {x2 x3 : Int32} (h7 : κ ≤ 7) (hn : n ≤ 100) (ha : x3 = 0 → ¬ κ = 4 → n = 0) (hb : (¬ x3 = 0 ∨ κ = 4) → x2 = nI n)
    (h : sz < 6 → post (nI (sz + 1)) (nI ec, nI (sz + 1), st, 0, mk, ow, iw, upd kd sz (nI κ), upd lb sz (nI n), he, be, tt)) (h0 : ¬ sz < 6 → sz ≤ 6 → post (-2) (nI ec, nI sz, st, kn, mk, ow, iw, kd, lb, he, be, tt)) (hsz : sz ≤ 6) : wX_add_55 post (nI κ) x2 x3 (nI ec) (nI sz) st kn mk ow iw kd lb he be tt := by
  by_cases hs : sz < 6
  · refine br_t (nI_lt (a := sz) (b := 6) hs (by decide)) ⟨vp_in_nI hs (by decide), nm_r (e' := upd kd sz (nI κ)) (by rw [wk_by (by omega), nI_clamp (by omega)]) (br_c (fun z => br_c (fun y => ?_) (fun y => ?_)) (fun z => ?_))⟩
    · have e : κ = 4 := (nI_eq (a := κ) (b := 4) (by omega) (by decide)).mp y
      have := hb (Or.inr e)
      subst this
      exact xa_100 hs hn (h hs)
    · have e : ¬ κ = 4 := fun q => y (by rw [q]; rfl)
      have := ha z e
      subst this
      exact xa_100 (n := 0) hs hn (h hs)
    · have := hb (Or.inl z)
      subst this
      exact xa_100 hs hn (h hs)
  · exact br_f (nI_nlt (a := sz) (b := 6) (by omega) (by omega)) (h0 hs hsz)
theorem ya_41 {post : Int32 → SY → Prop} {x1 x2 : Int32} (h : sz < 6 → post (nI (sz + 1)) (nI ec, nI (sz + 1), st, mk, bg, en, la, upd kd sz x1, upd nu sz x2, nw, th)) (h0 : ¬ sz < 6 → sz ≤ 6 → post (-2) (nI ec, nI sz, st, mk, bg, en, la, kd, nu, nw, th)) (hsz : sz ≤ 6) : wY_add_41 post x1 x2 (nI ec) (nI sz) st mk bg en la kd nu nw th := by
  by_cases hs : sz < 6
  · refine br_t (nI_lt (a := sz) (b := 6) hs (by decide)) ⟨vp_in_nI hs (by decide), nm_r (e' := upd kd sz x1) (by rw [nI_clamp (by omega)]) ⟨vp_in_nI hs (by decide), nm_r (e' := upd nu sz x2) (by rw [nI_clamp (by omega)]) (nm_r (nI_1 sz) (h hs))⟩⟩
  · exact br_f (nI_nlt (a := sz) (b := 6) (by omega) (by omega)) (h0 hs hsz)
end
end
section
theorem wk_n12 {n : Nat} (h : n ≤ 2) : nI n = 0 ∨ nI n = 1 ∨ nI n = 2 := by
  have : n = 0 ∨ n = 1 ∨ n = 2 := by omega
  rcases this with rfl | rfl | rfl
  · exact Or.inl rfl
  · exact Or.inr (Or.inl rfl)
  · exact Or.inr (Or.inr rfl)
theorem i_vc_add {k : Nat} {u : SX} {v : SY} (I : i_Rel k u v) (hk : k + 4 ≤ 2048) (v1 : Int32) (v2 : Int32) : wpX_add (fun r u' => wpY_add (fun r' v' => r' = r ∧ i_Rel (k + 4) u' v') v v1 v2) u v1 v2 := by
  refine wk_el (P := fun u v => wpX_add (fun r u' => wpY_add (fun r' v' => r' = r ∧ i_Rel (k + 4) u' v') v v1 v2) u v1 v2) ?_ I
  intro ec sz st kn mk ow iw kd lb he be tt bg en la nu nw th h1 h2 hE hD hP hQ
  have S : i_Rel (k + 4) (nI ec, nI sz, st, kn, mk, ow, iw, kd, lb, he, be, tt) (nI ec, nI sz, st, mk, bg, en, la, kd, nu, nw, th) := wk_in h1 h2 hE hD hP hQ
  unfold wpX_add wpY_add
  dsimp only
  by_cases hl : v1 < 0
  · exact br_t hl (br_t hl (br_t hl ⟨rfl, S⟩))
  · by_cases hg : 7 < v1
    · have h3 : (3 : Int32) < v1 := Int32.lt_trans (by decide) hg
      exact br_f hl (br_t h3 (br_f hl (br_t hg (br_f hl (br_t hg ⟨rfl, S⟩)))))
    · obtain ⟨κ, h7, rfl⟩ := nI_of2 (M := 7) (n := 7) (by decide) hl (Int32.not_lt.mp hg)
      have A : ∀ (n : Nat), n ≤ 100 → (κ ≤ 4 → v2 = nI n) → (κ ≤ 3 → nI n = 0 ∨ nI n = 1 ∨ nI n = 2) → sz < 6 → i_Rel (k + 4) (nI ec, nI (sz + 1), st, 0, mk, ow, iw, upd kd sz (nI κ), upd lb sz (nI n), he, be, tt) (nI ec, nI (sz + 1), st, mk, bg, en, la, upd kd sz (nI κ), upd nu sz v2, nw, th) := by
        intro n hn ha hb hs
        exact wk_in h1 (by omega) hE hD (wk_Padd hP h7 ha hb) (Or.inl rfl)
      by_cases c3 : κ ≤ 3
      · have n3 : ¬ (3 : Int32) < nI κ := nI_nlt (a := 3) (b := κ) c3 (by decide)
        have n4 : ¬ nI κ = 4 := fun q => by
          have := (nI_eq (a := κ) (b := 4) (by omega) (by decide)).mp q
          omega
        by_cases m0 : v2 < 0
        · exact br_f hl (br_f n3 (br_f hl (br_f hg (br_f wk_01 (br_t m0 (br_f hl (br_f hg (br_f n3 (br_t m0 ⟨rfl, S⟩)))))))))
        · by_cases m2 : 2 < v2
          · exact br_f hl (br_f n3 (br_f hl (br_f hg (br_f wk_01 (br_f m0 (br_t m2 (br_f hl (br_f hg (br_f n3 (br_f m0 (br_t m2 ⟨rfl, S⟩)))))))))))
          · obtain ⟨n, hn2, rfl⟩ := nI_of2 (M := 2) (n := 2) (by decide) m0 (Int32.not_lt.mp m2)
            refine br_f hl (br_f n3 (br_f hl (br_f hg (br_f wk_01 (br_f m0 (br_f m2 (br_f n4 (xa_55 (n := n) h7 (by omega) (fun z => absurd z wk_01) (fun _ => rfl) (fun hs => ?_) (fun hs _ => ?_) h2))))))))
            · exact br_f hl (br_f hg (br_f n3 (br_f m0 (br_f m2 (br_f n4 (ya_41 (fun _ => ⟨rfl, A n (by omega) (fun _ => rfl) (fun _ => wk_n12 hn2) hs⟩) (fun q => absurd hs q) h2))))))
            · exact br_f hl (br_f hg (br_f n3 (br_f m0 (br_f m2 (br_f n4 (ya_41 (fun q => absurd q hs) (fun _ _ => ⟨rfl, S⟩) h2))))))
      · have n3 : (3 : Int32) < nI κ := nI_lt (a := 3) (b := κ) (by omega) (by omega)
        by_cases c4 : κ = 4
        · have n4 : nI κ = 4 := by rw [c4]; rfl
          by_cases m0 : v2 < 0
          · exact br_f hl (br_t n3 (br_f hl (br_f hg (br_t (c := (0 : Int32) = 0) rfl (br_t n4 (br_t m0 (br_f hl (br_f hg (br_t n3 (br_t n4 (br_t m0 ⟨rfl, S⟩)))))))))))
          · by_cases m9 : v2 ≤ 9
            · obtain ⟨n, hn2, rfl⟩ := nI_of2 (M := 9) (n := 9) (by decide) m0 m9
              refine br_f hl (br_t n3 (br_f hl (br_f hg (br_t (c := (0 : Int32) = 0) rfl (br_t n4 (br_f m0 (br_t m9 (xa_55 (n := n) h7 (by omega) (fun _ z => absurd c4 z) (fun _ => rfl) (fun hs => ?_) (fun hs _ => ?_) h2))))))))
              · exact br_f hl (br_f hg (br_t n3 (br_t n4 (br_f m0 (br_t m9 (ya_41 (fun _ => ⟨rfl, A n (by omega) (fun _ => rfl) (fun q => absurd q c3) hs⟩) (fun q => absurd hs q) h2))))))
              · exact br_f hl (br_f hg (br_t n3 (br_t n4 (br_f m0 (br_t m9 (ya_41 (fun q => absurd q hs) (fun _ _ => ⟨rfl, S⟩) h2))))))
            · exact br_f hl (br_t n3 (br_f hl (br_f hg (br_t (c := (0 : Int32) = 0) rfl (br_t n4 (br_f m0 (br_f m9 (br_f hl (br_f hg (br_t n3 (br_t n4 (br_f m0 (br_f m9 ⟨rfl, S⟩)))))))))))))
        · have n4 : ¬ nI κ = 4 := fun q => c4 ((nI_eq (a := κ) (b := 4) (by omega) (by decide)).mp q)
          refine br_f hl (br_t n3 (br_f hl (br_f hg (br_t (c := (0 : Int32) = 0) rfl (br_f n4 (xa_55 (n := 0) h7 (by omega) (fun _ _ => rfl) (fun z => absurd z (fun q => q.elim (fun r => r rfl) c4)) (fun hs => ?_) (fun hs _ => ?_) h2))))))
          · exact br_f hl (br_f hg (br_t n3 (br_f n4 (ya_41 (fun _ => ⟨rfl, A 0 (by omega) (fun q => absurd q (by omega)) (fun q => absurd q c3) hs⟩) (fun q => absurd hs q) h2))))
          · exact br_f hl (br_f hg (br_t n3 (br_f n4 (ya_41 (fun q => absurd q hs) (fun _ _ => ⟨rfl, S⟩) h2))))
theorem i_vc_drop {k : Nat} {u : SX} {v : SY} (I : i_Rel k u v) (hk : k + 4 ≤ 2048) : wpX_drop (fun r u' => wpY_drop (fun r' v' => r' = r ∧ i_Rel (k + 4) u' v') v) u := by
  refine wk_el (P := fun u v => wpX_drop (fun r u' => wpY_drop (fun r' v' => r' = r ∧ i_Rel (k + 4) u' v') v) u) ?_ I
  intro ec sz st kn mk ow iw kd lb he be tt bg en la nu nw th h1 h2 hE hD hP hQ
  have S : i_Rel (k + 4) (nI ec, nI sz, st, kn, mk, ow, iw, kd, lb, he, be, tt) (nI ec, nI sz, st, mk, bg, en, la, kd, nu, nw, th) := wk_in h1 h2 hE hD hP hQ
  unfold wpX_drop wpY_drop
  dsimp only
  by_cases h0 : sz = 0
  · subst h0
    exact br_t (c := nI 0 = 0) rfl (br_t (c := nI 0 = 0) rfl ⟨rfl, S⟩)
  · obtain ⟨c, rfl⟩ : ∃ c, sz = c + 1 := ⟨sz - 1, by omega⟩
    have n0 : ¬ nI (c + 1) = 0 := nI_ne0 (by omega) (by omega)
    refine br_f n0 (nm_r (nI_pred c) (br_f n0 (nm_r (nI_pred c) ⟨rfl, ?_⟩)))
    exact wk_in h1 (by omega) hE hD (fun j hj => hP j (by omega)) (Or.inl rfl)
theorem i_vc_from {k : Nat} {u : SX} {v : SY} (I : i_Rel k u v) (hk : k + 4 ≤ 2048) (v1 : Int32) : wpX_from (fun r u' => wpY_from (fun r' v' => r' = r ∧ i_Rel (k + 4) u' v') v v1) u v1 := by
  refine wk_el (P := fun u v => wpX_from (fun r u' => wpY_from (fun r' v' => r' = r ∧ i_Rel (k + 4) u' v') v v1) u v1) ?_ I
  intro ec sz st kn mk ow iw kd lb he be tt bg en la nu nw th h1 h2 hE hD hP hQ
  have S : i_Rel (k + 4) (nI ec, nI sz, st, kn, mk, ow, iw, kd, lb, he, be, tt) (nI ec, nI sz, st, mk, bg, en, la, kd, nu, nw, th) := wk_in h1 h2 hE hD hP hQ
  unfold wpX_from wpY_from
  dsimp only
  refine br_c (fun hl => br_t hl ⟨rfl, S⟩) (fun hl => br_c (fun hg => br_f hl (br_t hg ⟨rfl, ?_⟩)) (fun hg => br_f hl (br_f hg ⟨rfl, S⟩)))
  exact wk_in h1 h2 hE hD hP (Or.inl rfl)
theorem i_vc_edges {k : Nat} {u : SX} {v : SY} (I : i_Rel k u v) (hk : k + 4 ≤ 2048) : wpX_edges (fun r => wpY_edges (fun r' => r' = r ∧ i_Rel (k + 4) u v) v) u := by
  have I2 : i_Rel (k + 4) u v := I
  revert I2
  refine wk_el (P := fun u v => i_Rel (k + 4) u v → wpX_edges (fun r => wpY_edges (fun r' => r' = r ∧ i_Rel (k + 4) u v) v) u) ?_ I
  intro ec sz st kn mk ow iw kd lb he be tt bg en la nu nw th h1 h2 hE hD hP hQ S
  exact ⟨rfl, S⟩
end
section
/-- a cell of bits with bit b turned -/
def wk_tw (f : Nat → Int32) (i b : Nat) : Nat → Int32 := upd f i (vp_nar .short ((f i ^^^ ((1 : Int32) <<< (nI b &&& 31))).toInt16.toInt32))
theorem wk_tg {x : Int32} (hx : ∃ q, q < 256 ∧ x = nI q) {b : Nat} (hb : b < 8) : ∃ q, q < 256 ∧ vp_nar .short ((x ^^^ ((1 : Int32) <<< (nI b &&& 31))).toInt16.toInt32) = nI q ∧ ∀ j, j < 8 → wk_b (nI q) j = if j = b then 1 - wk_b x j else wk_b x j := by
  obtain ⟨q, hq, rfl⟩ := hx
  have hp : 2 ^ b < 2 ^ 8 := Nat.pow_lt_pow_right (by decide) hb
  have hq' : q ^^^ 2 ^ b < 2 ^ 8 := Nat.xor_lt_two_pow hq hp
  have hsh : (1 : Int32) <<< (nI b &&& 31) = nI (2 ^ b) := by
    have := pk_shlN (n := 1) (nI b &&& 31) b (s_l b (by omega)) (by omega)
    rw [Nat.one_mul] at this
    exact this
  refine ⟨q ^^^ 2 ^ b, hq', ?_, fun j hj => ?_⟩
  · rw [hsh, nx_xor, pk_vs]
    exact lg_i2s_small (by rw [nI_toInt (by omega)]; omega) (by rw [nI_toInt (by omega)]; omega)
  · rw [wk_bq hq' (by omega), wk_bq hq (by omega), Nat.testBit_xor, Nat.testBit_two_pow]
    by_cases e : j = b
    · subst e
      rw [if_pos rfl, decide_eq_true rfl]
      cases q.testBit j <;> rfl
    · rw [if_neg e, decide_eq_false (fun z => e z.symm)]
      cases q.testBit j <;> rfl
theorem wk_twq {f : Nat → Int32} (h : ∀ i, i < 16 → ∃ q, q < 256 ∧ f i = nI q) {i b : Nat} (hi : i < 16) (hb : b < 8) : ∀ j, j < 16 → ∃ q, q < 256 ∧ wk_tw f i b j = nI q := by
  intro j hj
  obtain ⟨q, hq, e, _⟩ := wk_tg (h i hi) hb
  unfold wk_tw
  by_cases z : j = i
  · rw [z, pk_us]; exact ⟨q, hq, e⟩
  · rw [pk_un z]; exact h j hj
theorem wk_twb {f : Nat → Int32} (h : ∀ i, i < 16 → ∃ q, q < 256 ∧ f i = nI q) {i b : Nat} (hi : i < 16) (hb : b < 8) {j c : Nat} (hc : c < 8) : wk_b (wk_tw f i b j) c = if j = i ∧ c = b then 1 - wk_b (f j) c else wk_b (f j) c := by
  obtain ⟨q, hq, e, hbit⟩ := wk_tg (h i hi) hb
  unfold wk_tw
  by_cases z : j = i
  · rw [z, pk_us, e, hbit c hc]
    by_cases y : c = b
    · rw [if_pos y, if_pos ⟨rfl, y⟩]
    · rw [if_neg y, if_neg (fun t => y t.2)]
  · rw [pk_un z, if_neg (fun t => z t.1)]
theorem wk_Eturn {ec ec' a b l : Nat} {ow iw bg en la bg' en' la' : Nat → Int32} (hE : wk_E ec ow iw bg en la) (ha : a < 8) (hb : b < 8) (hl : l < 2)
    (h1 : ∀ e, e < ec' → (∃ a, a < 8 ∧ bg' e = nI a) ∧ (∃ b, b < 8 ∧ en' e = nI b) ∧ (la' e = 0 ∨ la' e = 1))
    (h2 : ∀ a' b' l', a' < 8 → b' < 8 → l' < 2 → wk_n bg' en' la' (nI a') (nI b') (nI l') ec' = if a' = a ∧ b' = b ∧ l' = l then 1 - wk_n bg en la (nI a') (nI b') (nI l') ec else wk_n bg en la (nI a') (nI b') (nI l') ec) :
    wk_E ec' (wk_tw ow (l * 8 + a) b) (wk_tw iw (l * 8 + b) a) bg' en' la' := by
  refine ⟨wk_twq hE.1 (by omega) hb, wk_twq hE.2.1 (by omega) ha, h1, fun a' b' l' ha' hb' hl' => ?_⟩
  rw [wk_twb hE.1 (by omega) hb hb', wk_twb hE.2.1 (by omega) ha ha', h2 a' b' l' ha' hb' hl', (hE.2.2.2 a' b' l' ha' hb' hl').1, (hE.2.2.2 a' b' l' ha' hb' hl').2]
  by_cases z : a' = a ∧ b' = b ∧ l' = l
  · rw [if_pos z, if_pos (by omega), if_pos (by omega)]
    exact ⟨rfl, rfl⟩
  · rw [if_neg z, if_neg (by omega), if_neg (by omega)]
    exact ⟨rfl, rfl⟩
theorem wk_nI3 {a b l a' b' l' : Nat} (ha : a < 8) (hb : b < 8) (hl : l < 2) (ha' : a' < 8) (hb' : b' < 8) (hl' : l' < 2) : (nI a = nI a' ∧ nI b = nI b' ∧ nI l = nI l') ↔ (a' = a ∧ b' = b ∧ l' = l) := by
  rw [nI_eq (by omega) (by omega), nI_eq (by omega) (by omega), nI_eq (by omega) (by omega)]
  omega
theorem wk_l2 {l : Nat} (h : l < 2) : nI l = 0 ∨ nI l = 1 := by
  have : l = 0 ∨ l = 1 := by omega
  rcases this with rfl | rfl
  · exact Or.inl rfl
  · exact Or.inr rfl
theorem wk_Ejoin {ec a b l : Nat} {ow iw bg en la : Nat → Int32} (hE : wk_E ec ow iw bg en la) (ha : a < 8) (hb : b < 8) (hl : l < 2) (h0 : wk_n bg en la (nI a) (nI b) (nI l) ec = 0) :
    wk_E (ec + 1) (wk_tw ow (l * 8 + a) b) (wk_tw iw (l * 8 + b) a) (upd bg ec (nI a)) (upd en ec (nI b)) (upd la ec (nI l)) := by
  refine wk_Eturn hE ha hb hl ?_ ?_
  · intro e he
    by_cases z : e = ec
    · rw [z, pk_us, pk_us, pk_us]
      exact ⟨⟨a, ha, rfl⟩, ⟨b, hb, rfl⟩, wk_l2 hl⟩
    · rw [pk_un z, pk_un z, pk_un z]
      exact hE.2.2.1 e (by omega)
  · intro a' b' l' ha' hb' hl'
    have e1 : wk_n (upd bg ec (nI a)) (upd en ec (nI b)) (upd la ec (nI l)) (nI a') (nI b') (nI l') (ec + 1) = wk_n bg en la (nI a') (nI b') (nI l') ec + (if nI a = nI a' ∧ nI b = nI b' ∧ nI l = nI l' then 1 else 0) := by
      show wk_s (fun e => if upd bg ec (nI a) e = nI a' ∧ upd en ec (nI b) e = nI b' ∧ upd la ec (nI l) e = nI l' then 1 else 0) ec + (if upd bg ec (nI a) ec = nI a' ∧ upd en ec (nI b) ec = nI b' ∧ upd la ec (nI l) ec = nI l' then 1 else 0) = _
      rw [pk_us, pk_us, pk_us]
      refine congrArg (fun t => t + (if nI a = nI a' ∧ nI b = nI b' ∧ nI l = nI l' then 1 else 0)) (wk_cg fun e he => ?_)
      rw [pk_un (by omega), pk_un (by omega), pk_un (by omega)]
    rw [e1]
    by_cases z : a' = a ∧ b' = b ∧ l' = l
    · rw [if_pos ((wk_nI3 ha hb hl ha' hb' hl').mpr z), if_pos z, z.1, z.2.1, z.2.2, h0]
    · rw [if_neg (fun t => z ((wk_nI3 ha hb hl ha' hb' hl').mp t)), if_neg z, Nat.add_zero]
theorem wk_Ecut {c a b l e : Nat} {ow iw bg en la : Nat → Int32} (hE : wk_E (c + 1) ow iw bg en la) (ha : a < 8) (hb : b < 8) (hl : l < 2) (he : e < c + 1) (h1 : bg e = nI a) (h2 : en e = nI b) (h3 : la e = nI l) :
    wk_E c (wk_tw ow (l * 8 + a) b) (wk_tw iw (l * 8 + b) a) (upd bg e (bg c)) (upd en e (en c)) (upd la e (la c)) := by
  refine wk_Eturn hE ha hb hl ?_ ?_
  · intro i hi
    by_cases z : i = e
    · rw [z, pk_us, pk_us, pk_us]
      exact hE.2.2.1 c (by omega)
    · rw [pk_un z, pk_un z, pk_un z]
      exact hE.2.2.1 i (by omega)
  · intro a' b' l' ha' hb' hl'
    have key : wk_n (upd bg e (bg c)) (upd en e (en c)) (upd la e (la c)) (nI a') (nI b') (nI l') c + (if bg e = nI a' ∧ en e = nI b' ∧ la e = nI l' then 1 else 0) = wk_n bg en la (nI a') (nI b') (nI l') (c + 1) := by
      show _ = wk_n bg en la (nI a') (nI b') (nI l') c + (if bg c = nI a' ∧ en c = nI b' ∧ la c = nI l' then 1 else 0)
      by_cases z : e = c
      · rw [z]
        refine congrArg (fun t => t + (if bg c = nI a' ∧ en c = nI b' ∧ la c = nI l' then 1 else 0)) (wk_cg fun i hi => ?_)
        rw [pk_un (by omega), pk_un (by omega), pk_un (by omega)]
      · have := wk_upd (f := fun i => if upd bg e (bg c) i = nI a' ∧ upd en e (en c) i = nI b' ∧ upd la e (la c) i = nI l' then 1 else 0) (g := fun i => if bg i = nI a' ∧ en i = nI b' ∧ la i = nI l' then 1 else 0) (n := c) (i := e) (by omega) (fun j _ hne => by rw [pk_un hne, pk_un hne, pk_un hne])
        rw [pk_us, pk_us, pk_us] at this
        exact this
    have top : wk_n bg en la (nI a') (nI b') (nI l') (c + 1) ≤ 1 := by
      rw [← (hE.2.2.2 a' b' l' ha' hb' hl').1]
      exact wk_ble _ _
    rw [h1, h2, h3] at key
    by_cases z : a' = a ∧ b' = b ∧ l' = l
    · rw [if_pos z]
      rw [if_pos ((wk_nI3 ha hb hl ha' hb' hl').mpr z)] at key
      omega
    · rw [if_neg z]
      rw [if_neg (fun t => z ((wk_nI3 ha hb hl ha' hb' hl').mp t)), Nat.add_zero] at key
      exact key
section
variable {ec : Nat} {sz st kn ecx : Int32} {mk ow iw kd lb he be tt bg en la nu nw th : Nat → Int32}
theorem xe_turn {post : SX → Prop} {a b l : Nat} (ha : a < 8) (hb : b < 8) (hl : l < 2) (h : post (ecx, sz, st, 0, mk, wk_tw ow (l * 8 + a) b, wk_tw iw (l * 8 + b) a, kd, lb, he, be, tt)) : wpX_turn post (ecx, sz, st, kn, mk, ow, iw, kd, lb, he, be, tt) (nI a) (nI b) (nI l) := by
  have i1 : vp_in (nI (l * 8 + a)) 16 := vp_in_nI (by omega) (by decide)
  have i2 : vp_in (nI (l * 8 + b)) 16 := vp_in_nI (by omega) (by decide)
  refine nm_r (wk_nx l a) (nm_r (wk_nx l b) ⟨i1, i1, nm_r (e' := wk_tw ow (l * 8 + a) b) ?_ ⟨i2, i2, nm_r (e' := wk_tw iw (l * 8 + b) a) ?_ h⟩⟩)
  · rw [nI_clamp (by omega)]; rfl
  · rw [nI_clamp (by omega)]; rfl
theorem xe_has {post : Int32 → Prop} {a b l : Nat} (ha : a < 8) (hb : b < 8) (hl : l < 2) (h0 : wk_b (ow (l * 8 + a)) b = 0 → post 0) (h1 : wk_b (ow (l * 8 + a)) b = 1 → post 1) : wpX_hasEdge post (ecx, sz, st, kn, mk, ow, iw, kd, lb, he, be, tt) (nI a) (nI b) (nI l) := by
  have hc : (nI l * 8 + nI a).toNatClampNeg = l * 8 + a := wk_cx (by omega) ha
  refine ⟨wk_ix (by omega) (by decide), br_c (fun z => h0 ?_) (fun z => h1 ?_)⟩
  · rw [hc] at z; exact wk_b0 z
  · rw [hc] at z; exact wk_b1 z
theorem xe1 {post : Int32 → Prop} {a b l : Nat} (ha : a < 8) (hb : b < 8) (hne : ¬ a = b) (hl : l < 2) (h : post 1) : wpX_isEdge post (nI a) (nI b) (nI l) := by
  refine xv1 ha (br_f wk_01 (xv1 hb (br_f wk_01 (br_f (fun z => hne ((nI_eq (by omega) (by omega)).mp z)) ?_))))
  rcases wk_l2 hl with e | e
  · exact br_t e h
  · exact br_f (by rw [e]; exact wk_01) (br_t e h)
theorem xe0 {post : Int32 → Prop} {x y z : Int32} (hv : ¬ ∃ a b l : Nat, a < 8 ∧ b < 8 ∧ ¬ a = b ∧ l < 2 ∧ x = nI a ∧ y = nI b ∧ z = nI l) (h : post 0) : wpX_isEdge post x y z := by
  have r0 : (0 : Int32) = 0 := rfl
  by_cases hx : ∃ j, j < 8 ∧ x = nI j
  · obtain ⟨a, ha, rfl⟩ := hx
    refine xv1 ha (br_f wk_01 ?_)
    by_cases hy : ∃ j, j < 8 ∧ y = nI j
    · obtain ⟨b, hb, rfl⟩ := hy
      refine xv1 hb (br_f wk_01 (br_c (fun _ => h) (fun hn => br_c (fun e => ?_) (fun _ => br_c (fun e => ?_) (fun _ => h)))))
      · exact absurd ⟨a, b, 0, ha, hb, fun q => hn (by rw [q]), by decide, rfl, rfl, e⟩ hv
      · exact absurd ⟨a, b, 1, ha, hb, fun q => hn (by rw [q]), by decide, rfl, rfl, e⟩ hv
    · exact xv0 hy (br_t r0 h)
  · exact xv0 hx (br_t r0 h)
theorem ye_find {post : Int32 → Prop} {x y z : Int32} (hec : ec ≤ 10) (h0 : wk_n bg en la x y z ec = 0 → post (-1)) (h1 : ∀ e, e < ec → bg e = x → en e = y → la e = z → post (nI e)) : wpY_find post (nI ec, sz, st, mk, bg, en, la, kd, nu, nw, th) x y z := by
  refine loop_0 (fun m i (_ : Unit) => wY_find_3 post x y z (nI ec) sz st mk bg en la kd nu nw th m (nI i)) (fun i _ => wk_n bg en la x y z i = 0) ec () rfl ?_ ?_
  · intro m _ hI
    exact br_t (nI_le (Nat.le_refl _) (by omega)) (h0 hI)
  · intro m i _ hi hI L
    have hc : (nI i).toNatClampNeg = i := nI_clamp (by omega)
    have hin : vp_in (nI i) 10 := vp_in_nI (by omega) (by decide)
    have N : ¬ (bg i = x ∧ en i = y ∧ la i = z) → wY_find_3 post x y z (nI ec) sz st mk bg en la kd nu nw th m (nI (i + 1)) := by
      intro h
      refine L () ?_
      show wk_n bg en la x y z i + (if bg i = x ∧ en i = y ∧ la i = z then 1 else 0) = 0
      rw [hI, if_neg h]
    refine br_f (nI_ge hi (by omega)) ⟨hin, br_c (fun e1 => ⟨hin, br_c (fun e2 => ⟨hin, br_c (fun e3 => ?_) (fun e3 => nm_r (nI_1 i) (N fun q => e3 (by rw [hc]; exact q.2.2)))⟩) (fun e2 => nm_r (nI_1 i) (N fun q => e2 (by rw [hc]; exact q.2.1)))⟩) (fun e1 => nm_r (nI_1 i) (N fun q => e1 (by rw [hc]; exact q.1)))⟩
    rw [hc] at e1 e2 e3
    exact h1 i hi e1 e2 e3
theorem wk_n0 {bg en la : Nat → Int32} {x y z : Int32} {n e : Nat} (h : wk_n bg en la x y z n = 0) (he : e < n) (h1 : bg e = x) (h2 : en e = y) (h3 : la e = z) : False := by
  have m := wk_eq0 (f := fun e => if bg e = x ∧ en e = y ∧ la e = z then 1 else 0) h e he
  have m2 : (if bg e = x ∧ en e = y ∧ la e = z then 1 else 0 : Nat) = 0 := m
  rw [if_pos ⟨h1, h2, h3⟩] at m2
  omega
end
end
section
theorem i_vc_join {k : Nat} {u : SX} {v : SY} (I : i_Rel k u v) (hk : k + 4 ≤ 2048) (v1 : Int32) (v2 : Int32) (v3 : Int32) : wpX_join (fun r u' => wpY_join (fun r' v' => r' = r ∧ i_Rel (k + 4) u' v') v v1 v2 v3) u v1 v2 v3 := by
  refine wk_el (P := fun u v => wpX_join (fun r u' => wpY_join (fun r' v' => r' = r ∧ i_Rel (k + 4) u' v') v v1 v2 v3) u v1 v2 v3) ?_ I
  intro ec sz st kn mk ow iw kd lb he be tt bg en la nu nw th h1 h2 hE hD hP hQ
  have S : i_Rel (k + 4) (nI ec, nI sz, st, kn, mk, ow, iw, kd, lb, he, be, tt) (nI ec, nI sz, st, mk, bg, en, la, kd, nu, nw, th) := wk_in h1 h2 hE hD hP hQ
  have r0 : (0 : Int32) = 0 := rfl
  unfold wpX_join wpY_join
  dsimp only
  by_cases hv : ∃ a b l : Nat, a < 8 ∧ b < 8 ∧ ¬ a = b ∧ l < 2 ∧ v1 = nI a ∧ v2 = nI b ∧ v3 = nI l
  · obtain ⟨a, b, l, ha, hb, hne, hl, rfl, rfl, rfl⟩ := hv
    have hab : ¬ nI a = nI b := fun z => hne ((nI_eq (by omega) (by omega)).mp z)
    have l0 : ¬ nI l < 0 := nI_pos (by omega)
    have l1 : ¬ (1 : Int32) < nI l := nI_nlt (a := 1) (b := l) (by omega) (by decide)
    have hbit := (hE.2.2.2 a b l ha hb hl).1
    refine xe1 ha hb hne hl (br_f wk_01 (xe_has ha hb hl (fun hz => br_t r0 ?_) (fun hz => br_f wk_01 ?_)))
    · have n0 : wk_n bg en la (nI a) (nI b) (nI l) ec = 0 := by rw [← hbit]; exact hz
      by_cases h10 : ec < 10
      · have c10 : nI ec < 10 := nI_lt (a := ec) (b := 10) h10 (by decide)
        have i10 : vp_in (nI ec) 10 := vp_in_nI h10 (by decide)
        have cl : (nI ec).toNatClampNeg = ec := nI_clamp (by omega)
        refine br_t c10 (xe_turn ha hb hl (nm_r (nI_1 ec) ?_))
        refine br_f hab (yv1 ha (br_f wk_01 (yv1 hb (br_f wk_01 (br_f l0 (br_f l1 (ye_find h1 (fun _ => br_f (by decide) (br_t c10 ?_)) (fun e he e1 e2 e3 => absurd (wk_n0 n0 he e1 e2 e3) id))))))))
        refine ⟨i10, nm_r (e' := upd bg ec (nI a)) (by rw [cl]) ⟨i10, nm_r (e' := upd en ec (nI b)) (by rw [cl]) ⟨i10, nm_r (e' := upd la ec (nI l)) (by rw [cl]) (nm_r (nI_1 ec) ⟨rfl, ?_⟩)⟩⟩⟩
        refine wk_in (by omega) h2 (wk_Ejoin hE ha hb hl n0) ?_ hP (Or.inl rfl)
        intro e he
        by_cases z : e = ec
        · rw [z, pk_us, pk_us]; exact hab
        · rw [pk_un z, pk_un z]; exact hD e (by omega)
      · have c10 : ¬ nI ec < 10 := nI_nlt (a := ec) (b := 10) (by omega) (by omega)
        refine br_f c10 ?_
        exact br_f hab (yv1 ha (br_f wk_01 (yv1 hb (br_f wk_01 (br_f l0 (br_f l1 (ye_find h1 (fun _ => br_f (by decide) (br_f c10 ⟨rfl, S⟩)) (fun e he e1 e2 e3 => absurd (wk_n0 n0 he e1 e2 e3) id))))))))
    · exact br_f hab (yv1 ha (br_f wk_01 (yv1 hb (br_f wk_01 (br_f l0 (br_f l1 (ye_find h1 (fun n0 => absurd (hz.symm.trans (hbit.trans n0)) (by decide)) (fun e he e1 e2 e3 => br_t (nI_pos' (by omega)) ⟨rfl, S⟩))))))))
  · refine xe0 hv (br_t r0 ?_)
    by_cases hab : v1 = v2
    · exact br_t hab ⟨rfl, S⟩
    · refine br_f hab ?_
      by_cases hx : ∃ j, j < 8 ∧ v1 = nI j
      · obtain ⟨a, ha, rfl⟩ := hx
        refine yv1 ha (br_f wk_01 ?_)
        by_cases hy : ∃ j, j < 8 ∧ v2 = nI j
        · obtain ⟨b, hb, rfl⟩ := hy
          refine yv1 hb (br_f wk_01 (br_c (fun _ => ⟨rfl, S⟩) (fun l0 => br_c (fun _ => ⟨rfl, S⟩) (fun l1 => ?_))))
          obtain ⟨l, hl, rfl⟩ := nI_of2 (M := 1) (n := 1) (by decide) l0 (Int32.not_lt.mp l1)
          exact absurd ⟨a, b, l, ha, hb, fun q => hab (by rw [q]), by omega, rfl, rfl, rfl⟩ hv
        · exact yv0 hy (br_t r0 ⟨rfl, S⟩)
      · exact yv0 hx (br_t r0 ⟨rfl, S⟩)
theorem i_vc_cut {k : Nat} {u : SX} {v : SY} (I : i_Rel k u v) (hk : k + 4 ≤ 2048) (v1 : Int32) (v2 : Int32) (v3 : Int32) : wpX_cut (fun r u' => wpY_cut (fun r' v' => r' = r ∧ i_Rel (k + 4) u' v') v v1 v2 v3) u v1 v2 v3 := by
  refine wk_el (P := fun u v => wpX_cut (fun r u' => wpY_cut (fun r' v' => r' = r ∧ i_Rel (k + 4) u' v') v v1 v2 v3) u v1 v2 v3) ?_ I
  intro ec sz st kn mk ow iw kd lb he be tt bg en la nu nw th h1 h2 hE hD hP hQ
  have S : i_Rel (k + 4) (nI ec, nI sz, st, kn, mk, ow, iw, kd, lb, he, be, tt) (nI ec, nI sz, st, mk, bg, en, la, kd, nu, nw, th) := wk_in h1 h2 hE hD hP hQ
  have r0 : (0 : Int32) = 0 := rfl
  have nm1 : ¬ (0 : Int32) ≤ -1 := by decide
  unfold wpX_cut wpY_cut
  dsimp only
  by_cases hv : ∃ a b l : Nat, a < 8 ∧ b < 8 ∧ ¬ a = b ∧ l < 2 ∧ v1 = nI a ∧ v2 = nI b ∧ v3 = nI l
  · obtain ⟨a, b, l, ha, hb, hne, hl, rfl, rfl, rfl⟩ := hv
    have hbit := (hE.2.2.2 a b l ha hb hl).1
    refine xe1 ha hb hne hl (br_f wk_01 (xe_has ha hb hl (fun hz => br_t r0 ?_) (fun hz => br_f wk_01 (xe_turn ha hb hl ?_))))
    · have n0 : wk_n bg en la (nI a) (nI b) (nI l) ec = 0 := by rw [← hbit]; exact hz
      exact ye_find h1 (fun _ => br_f nm1 ⟨rfl, S⟩) (fun e he e1 e2 e3 => absurd (wk_n0 n0 he e1 e2 e3) id)
    · by_cases h0 : ec = 0
      · subst h0
        exact absurd (hz.symm.trans hbit) (by show ¬ 1 = 0; decide)
      · obtain ⟨c, rfl⟩ : ∃ c, ec = c + 1 := ⟨ec - 1, by omega⟩
        refine nm_r (nI_pred c) (ye_find h1 (fun n0 => absurd (hz.symm.trans (hbit.trans n0)) (by decide)) (fun e he e1 e2 e3 => br_t (nI_pos' (by omega)) (nm_r (nI_pred c) ?_)))
        have ic : vp_in (nI c) 10 := vp_in_nI (by omega) (by decide)
        have ie : vp_in (nI e) 10 := vp_in_nI (by omega) (by decide)
        have cc : (nI c).toNatClampNeg = c := nI_clamp (by omega)
        have ce : (nI e).toNatClampNeg = e := nI_clamp (by omega)
        refine ⟨ic, ie, nm_r (e' := upd bg e (bg c)) (by rw [cc, ce]) ⟨ic, ie, nm_r (e' := upd en e (en c)) (by rw [cc, ce]) ⟨ic, ie, nm_r (e' := upd la e (la c)) (by rw [cc, ce]) ⟨rfl, ?_⟩⟩⟩⟩
        refine wk_in (by omega) h2 (wk_Ecut hE ha hb hl he e1 e2 e3) ?_ hP (Or.inl rfl)
        intro i hi
        by_cases z : i = e
        · rw [z, pk_us, pk_us]; exact hD c (by omega)
        · rw [pk_un z, pk_un z]; exact hD i (by omega)
  · refine xe0 hv (br_t r0 (ye_find h1 (fun _ => br_f nm1 ⟨rfl, S⟩) (fun e he e1 e2 e3 => ?_)))
    obtain ⟨⟨a, ha, ea⟩, ⟨b, hb, eb⟩, el⟩ := hE.2.2.1 e he
    have hab : ¬ a = b := fun q => hD e he (by rw [ea, eb, q])
    refine absurd ?_ hv
    rcases el with el | el
    · exact ⟨a, b, 0, ha, hb, hab, by decide, e1.symm.trans ea, e2.symm.trans eb, e3.symm.trans el⟩
    · exact ⟨a, b, 1, ha, hb, hab, by decide, e1.symm.trans ea, e2.symm.trans eb, e3.symm.trans el⟩
end
section
/-- the union of the sets f 0 .. as bits -/
def wk_o (f : Nat → Nat) : Nat → Nat
  | 0 => 0
  | n + 1 => wk_o f n ||| f n
theorem wk_ot (f : Nat → Nat) (j : Nat) : ∀ n : Nat, (wk_o f n).testBit j = true ↔ ∃ i, i < n ∧ (f i).testBit j = true := by
  intro n
  induction n with
  | zero =>
    refine ⟨fun h => ?_, fun h => ?_⟩
    · exact absurd h (by show ¬ (0 : Nat).testBit j = true; rw [Nat.zero_testBit]; decide)
    · obtain ⟨i, hi, _⟩ := h; omega
  | succ n ih =>
    show (wk_o f n ||| f n).testBit j = true ↔ _
    rw [Nat.testBit_or, Bool.or_eq_true, ih]
    constructor
    · rintro (⟨i, hi, h⟩ | h)
      · exact ⟨i, by omega, h⟩
      · exact ⟨n, by omega, h⟩
    · rintro ⟨i, hi, h⟩
      by_cases e : i = n
      · subst e; exact Or.inr h
      · exact Or.inl ⟨i, by omega, h⟩
theorem wk_oe {f g : Nat → Nat} {n m : Nat} (h : ∀ j, (∃ i, i < n ∧ (f i).testBit j = true) ↔ (∃ i, i < m ∧ (g i).testBit j = true)) : wk_o f n = wk_o g m := by
  apply Nat.eq_of_testBit_eq
  intro j
  have a := wk_ot f j n
  have b := wk_ot g j m
  rw [h j, ← b] at a
  exact Bool.eq_iff_iff.mpr a
theorem wk_or (a b : Nat) : nI a ||| nI b = nI (a ||| b) := by
  apply Int32.toBitVec_inj.1
  show BitVec.ofNat 32 a ||| BitVec.ofNat 32 b = BitVec.ofNat 32 (a ||| b)
  apply BitVec.eq_of_getLsbD_eq
  intro i hi
  simp [hi]
theorem wk_sh {b : Nat} (hb : b < 8) : (1 : Int32) <<< (nI b &&& 31) = nI (2 ^ b) := by
  have hp : 2 ^ b < 2 ^ 8 := Nat.pow_lt_pow_right (by decide) hb
  have := pk_shlN (n := 1) (nI b &&& 31) b (s_l b (by omega)) (by omega)
  rw [Nat.one_mul] at this
  exact this
theorem wk_pt {p : Prop} [Decidable p] (i j : Nat) : (if p then 2 ^ i else 0 : Nat).testBit j = true ↔ p ∧ i = j := by
  by_cases h : p
  · rw [if_pos h, Nat.testBit_two_pow, decide_eq_true_iff]
    exact ⟨fun e => ⟨h, e⟩, fun e => e.2⟩
  · rw [if_neg h, Nat.zero_testBit]
    exact ⟨fun e => absurd e (by decide), fun e => absurd e.1 h⟩
theorem wk_pos {n : Nat} (h : n < 2 ^ 31) : nI n ≤ 0 ↔ n = 0 := by
  constructor
  · intro a
    by_cases z : n = 0
    · exact z
    · exact absurd a (nI_nle (by omega) h)
  · intro a
    rw [a]; decide
theorem wk_T64y (M : Nat → Nat → Nat) : wk_s (fun j => M (j / 8) (j % 8)) 64 = wk_T M := by
  refine (wk_8 (fun j => M (j / 8) (j % 8)) 8).trans ?_
  unfold wk_T
  rw [wk_cm (fun w s => M s w) 8 8]
  refine wk_cg fun a _ => wk_cg fun b hb => ?_
  show M ((8 * a + b) / 8) ((8 * a + b) % 8) = M a b
  rw [show (8 * a + b) % 8 = b from by omega, show (8 * a + b) / 8 = a from by omega]
theorem wk_Pk {n : Nat} {kd lb nu : Nat → Int32} (hP : wk_P n kd lb nu) : ∀ k, k < n → ∃ κ, κ ≤ 7 ∧ kd k = nI κ := fun k hk => by
  obtain ⟨κ, h7, e, _⟩ := hP k hk
  exact ⟨κ, h7, e⟩
section
variable {ec sz : Nat} {st kn : Int32} {mk ow iw kd lb he be tt bg en la nu nw th : Nat → Int32}
theorem xq_at {post : Int32 → SX → Prop} {v : Nat} (hv : v < 8) (h2 : sz ≤ 6) (hP : wk_P sz kd lb nu) (hQ : kn = 0 ∨ wk_Q sz st mk ow iw kd lb he tt)
    (K : ∀ kn' h' b' t', wk_Q sz st mk ow iw kd lb h' t' → post (nI (wk_A (wk_C st mk ow iw kd lb sz) v)) (nI ec, nI sz, st, kn', mk, ow, iw, kd, lb, h', b', t')) : wpX_at post (nI ec, nI sz, st, kn, mk, ow, iw, kd, lb, he, be, tt) (nI v) := by
  unfold wpX_at
  dsimp only
  refine xv1 hv (br_f wk_01 (xt_walk h2 (wk_Pk hP) hQ fun kn' h' b' t' hq => ?_))
  refine loop_0 (fun m i x => wX_at_17 post (nI v) (nI ec) (nI sz) st kn' mk ow iw kd lb h' b' t' m x (nI i)) (fun i x => x = nI (wk_s (fun s => wk_C st mk ow iw kd lb sz s v) i)) 8 0 rfl ?_ ?_
  · intro m x hI
    refine br_t wk_le8 ?_
    rw [hI]
    exact K kn' h' b' t' hq
  · intro m i x hi hI L
    refine br_f (wk_ge8 hi) ⟨wk_ix (by omega) (by decide), nm_r (e' := nI (wk_s (fun s => wk_C st mk ow iw kd lb sz s v) (i + 1))) ?_ (nm_r (nI_1 i) (L _ rfl))⟩
    rw [hI, wk_cx hv hi, hq.1 i v hi hv, nI_add]
    rfl
theorem yq_at {post : Int32 → SY → Prop} {v : Nat} (hv : v < 8) (h1 : ec ≤ 10) (h2 : sz ≤ 6) (hE : wk_E ec ow iw bg en la) (hP : wk_P sz kd lb nu)
    (K : ∀ m' h', post (nI (wk_A (wk_C st mk ow iw kd lb sz) v)) (nI ec, nI sz, st, mk, bg, en, la, kd, nu, m', h')) : wpY_at post (nI ec, nI sz, st, mk, bg, en, la, kd, nu, nw, th) (nI v) := by
  unfold wpY_at
  dsimp only
  refine ys_walk h2 (Nat.le_refl _) h1 hE hP fun m' h' hy => ?_
  refine loop_0 (fun m i x => wY_at_12 post (nI v) (nI ec) (nI sz) st mk bg en la kd nu m' h' m x (nI i)) (fun i x => x = nI (wk_s (fun s => wk_C st mk ow iw kd lb sz s v) i)) 8 0 rfl ?_ ?_
  · intro m x hI
    refine br_t wk_le8 ?_
    rw [hI]
    exact K m' h'
  · intro m i x hi hI L
    refine br_f (wk_ge8 hi) (yv1 hv (br_f wk_01 ⟨wk_iy (by omega) (by decide), nm_r (e' := nI (wk_s (fun s => wk_C st mk ow iw kd lb sz s v) (i + 1))) ?_ (nm_r (nI_1 i) (L _ rfl))⟩))
    rw [hI, wk_cy hi hv, hy i v hi hv, nI_add]
    rfl
theorem yq_after {post : Int32 → SY → Prop} {k : Nat} (hk : k ≤ sz) (h1 : ec ≤ 10) (h2 : sz ≤ 6) (hE : wk_E ec ow iw bg en la) (hP : wk_P sz kd lb nu)
    (K : ∀ m' h', post (nI (wk_T (wk_C st mk ow iw kd lb k))) (nI ec, nI sz, st, mk, bg, en, la, kd, nu, m', h')) : wpY_after post (nI ec, nI sz, st, mk, bg, en, la, kd, nu, nw, th) (nI k) := by
  refine br_f (nI_pos (by omega)) (br_t (nI_le hk (by omega)) (ys_walk h2 hk h1 hE hP fun m' h' hy => ?_))
  refine loop_0 (fun m i x => wY_after_23 post (nI ec) (nI sz) st mk bg en la kd nu m' h' m x (nI i)) (fun i x => x = nI (wk_s (fun j => wk_C st mk ow iw kd lb k (j / 8) (j % 8)) i)) 64 0 rfl ?_ ?_
  · intro m x hI
    refine br_t wk_le64 ?_
    rw [hI, wk_T64y]
    exact K m' h'
  · intro m i x hi hI L
    refine br_f (wk_ge64 hi) ⟨vp_in_nI hi (by decide), nm_r (e' := nI (wk_s (fun j => wk_C st mk ow iw kd lb k (j / 8) (j % 8)) (i + 1))) ?_ (nm_r (nI_1 i) (L _ rfl))⟩
    rw [hI, nI_clamp (by omega), wk_Yj hy hi, nI_add]
    rfl
theorem xq_between {post : Int32 → SX → Prop} {s v : Nat} (hs : s < 8) (hv : v < 8) (h2 : sz ≤ 6) (hP : wk_P sz kd lb nu) (hQ : kn = 0 ∨ wk_Q sz st mk ow iw kd lb he tt)
    (K : ∀ kn' h' b' t', wk_Q sz st mk ow iw kd lb h' t' → post (nI (wk_C st mk ow iw kd lb sz s v)) (nI ec, nI sz, st, kn', mk, ow, iw, kd, lb, h', b', t')) : wpX_between post (nI ec, nI sz, st, kn, mk, ow, iw, kd, lb, he, be, tt) (nI s) (nI v) := by
  unfold wpX_between
  dsimp only
  refine xv1 hs (br_f wk_01 (xv1 hv (br_f wk_01 (xt_walk h2 (wk_Pk hP) hQ fun kn' h' b' t' hq => ⟨wk_ix (by omega) (by decide), ?_⟩))))
  dsimp only
  rw [wk_cx hv hs, hq.1 s v hs hv]
  exact K kn' h' b' t' hq
end
theorem i_vc_at {k : Nat} {u : SX} {v : SY} (I : i_Rel k u v) (hk : k + 4 ≤ 2048) (v1 : Int32) : wpX_at (fun r u' => wpY_at (fun r' v' => r' = r ∧ i_Rel (k + 4) u' v') v v1) u v1 := by
  refine wk_el (P := fun u v => wpX_at (fun r u' => wpY_at (fun r' v' => r' = r ∧ i_Rel (k + 4) u' v') v v1) u v1) ?_ I
  intro ec sz st kn mk ow iw kd lb he be tt bg en la nu nw th h1 h2 hE hD hP hQ
  by_cases hv : ∃ j, j < 8 ∧ v1 = nI j
  · obtain ⟨j, hj, rfl⟩ := hv
    exact xq_at hj h2 hP hQ fun kn' h' b' t' hq => yq_at hj h1 h2 hE hP fun m' th' => ⟨rfl, wk_in h1 h2 hE hD hP (Or.inr hq)⟩
  · unfold wpX_at wpY_at
    dsimp only
    refine xv0 hv (br_t (c := (0 : Int32) = 0) rfl (ys_walk h2 (Nat.le_refl _) h1 hE hP fun m' h' _ => ⟨1, ?_⟩))
    exact br_f (by decide) (yv0 hv (br_t (c := (0 : Int32) = 0) rfl ⟨rfl, wk_in h1 h2 hE hD hP hQ⟩))
theorem i_vc_walkers {k : Nat} {u : SX} {v : SY} (I : i_Rel k u v) (hk : k + 4 ≤ 2048) : wpX_walkers (fun r u' => wpY_walkers (fun r' v' => r' = r ∧ i_Rel (k + 4) u' v') v) u := by
  refine wk_el (P := fun u v => wpX_walkers (fun r u' => wpY_walkers (fun r' v' => r' = r ∧ i_Rel (k + 4) u' v') v) u) ?_ I
  intro ec sz st kn mk ow iw kd lb he be tt bg en la nu nw th h1 h2 hE hD hP hQ
  unfold wpX_walkers wpY_walkers
  dsimp only
  refine xt_walk h2 (wk_Pk hP) hQ fun kn' h' b' t' hq => ⟨vp_in_nI (by omega) (by decide), ?_⟩
  refine yq_after (Nat.le_refl _) h1 h2 hE hP fun m' th' => ⟨?_, wk_in h1 h2 hE hD hP (Or.inr hq)⟩
  rw [nI_clamp (by omega)]
  exact (hq.2 sz (Nat.le_refl _)).symm
theorem i_vc_after {k : Nat} {u : SX} {v : SY} (I : i_Rel k u v) (hk : k + 4 ≤ 2048) (v1 : Int32) : wpX_after (fun r u' => wpY_after (fun r' v' => r' = r ∧ i_Rel (k + 4) u' v') v v1) u v1 := by
  refine wk_el (P := fun u v => wpX_after (fun r u' => wpY_after (fun r' v' => r' = r ∧ i_Rel (k + 4) u' v') v v1) u v1) ?_ I
  intro ec sz st kn mk ow iw kd lb he be tt bg en la nu nw th h1 h2 hE hD hP hQ
  have S : i_Rel (k + 4) (nI ec, nI sz, st, kn, mk, ow, iw, kd, lb, he, be, tt) (nI ec, nI sz, st, mk, bg, en, la, kd, nu, nw, th) := wk_in h1 h2 hE hD hP hQ
  unfold wpX_after
  dsimp only
  refine br_c (fun h0 => ?_) (fun h0 => br_c (fun hg => ?_) (fun hg => ?_))
  · unfold wpY_after
    exact br_t h0 ⟨rfl, S⟩
  · obtain ⟨j, hj, rfl⟩ := nI_of h0
    have hjs : j ≤ sz := (nI_leI hj (by omega)).mp hg
    refine xt_walk h2 (wk_Pk hP) hQ fun kn' h' b' t' hq => ⟨vp_in_nI (by omega) (by decide), ?_⟩
    refine yq_after hjs h1 h2 hE hP fun m' th' => ⟨?_, wk_in h1 h2 hE hD hP (Or.inr hq)⟩
    rw [nI_clamp (by omega)]
    exact (hq.2 j hjs).symm
  · unfold wpY_after
    exact br_f h0 (br_f hg ⟨rfl, S⟩)
theorem i_vc_between {k : Nat} {u : SX} {v : SY} (I : i_Rel k u v) (hk : k + 4 ≤ 2048) (v1 : Int32) (v2 : Int32) : wpX_between (fun r u' => wpY_between (fun r' v' => r' = r ∧ i_Rel (k + 4) u' v') v v1 v2) u v1 v2 := by
  refine wk_el (P := fun u v => wpX_between (fun r u' => wpY_between (fun r' v' => r' = r ∧ i_Rel (k + 4) u' v') v v1 v2) u v1 v2) ?_ I
  intro ec sz st kn mk ow iw kd lb he be tt bg en la nu nw th h1 h2 hE hD hP hQ
  have r0 : (0 : Int32) = 0 := rfl
  by_cases hs : ∃ j, j < 8 ∧ v1 = nI j
  · obtain ⟨s, hs8, rfl⟩ := hs
    by_cases hv : ∃ j, j < 8 ∧ v2 = nI j
    · obtain ⟨w, hw8, rfl⟩ := hv
      refine xq_between hs8 hw8 h2 hP hQ fun kn' h' b' t' hq => ?_
      unfold wpY_between
      dsimp only
      refine ys_walk h2 (Nat.le_refl _) h1 hE hP fun m' th' hy => yv1 hs8 (br_f wk_01 (yv1 hw8 (br_f wk_01 ⟨wk_iy (by omega) (by decide), ?_, wk_in h1 h2 hE hD hP (Or.inr hq)⟩)))
      dsimp only
      rw [wk_cy hs8 hw8, hy s w hs8 hw8]
    · unfold wpX_between wpY_between
      dsimp only
      exact xv1 hs8 (br_f wk_01 (xv0 hv (br_t r0 (ys_walk h2 (Nat.le_refl _) h1 hE hP fun m' th' hy => yv1 hs8 (br_f wk_01 (yv0 hv (br_t r0 ⟨rfl, wk_in h1 h2 hE hD hP hQ⟩)))))))
  · unfold wpX_between wpY_between
    dsimp only
    exact xv0 hs (br_t r0 (ys_walk h2 (Nat.le_refl _) h1 hE hP fun m' th' hy => yv0 hs (br_t r0 ⟨rfl, wk_in h1 h2 hE hD hP hQ⟩)))
end
section
section
variable {ec sz : Nat} {st kn : Int32} {mk ow iw kd lb he be tt bg en la nu nw th : Nat → Int32}
theorem xq_reached {post : Int32 → SX → Prop} (h2 : sz ≤ 6) (hP : wk_P sz kd lb nu) (hQ : kn = 0 ∨ wk_Q sz st mk ow iw kd lb he tt)
    (K : ∀ kn' h' b' t', (kn' = 0 ∨ wk_Q sz st mk ow iw kd lb h' t') → post (nI (wk_o (fun v => if 0 < wk_A (wk_C st mk ow iw kd lb sz) v then 2 ^ v else 0) 8)) (nI ec, nI sz, st, kn', mk, ow, iw, kd, lb, h', b', t')) : wpX_reached post (nI ec, nI sz, st, kn, mk, ow, iw, kd, lb, he, be, tt) := by
  refine loop_0 (fun m i (p : Int32 × Int32 × (Nat → Int32) × (Nat → Int32) × (Nat → Int32)) => wX_reached_4 post m p.1 (nI i) (nI ec) (nI sz) st p.2.1 mk ow iw kd lb p.2.2.1 p.2.2.2.1 p.2.2.2.2) (fun i p => p.1 = nI (wk_o (fun v => if 0 < wk_A (wk_C st mk ow iw kd lb sz) v then 2 ^ v else 0) i) ∧ (p.2.1 = 0 ∨ wk_Q sz st mk ow iw kd lb p.2.2.1 p.2.2.2.2)) 8 (0, kn, he, be, tt) ⟨rfl, hQ⟩ ?_ ?_
  · intro m p hI
    refine br_t wk_le8 ?_
    rw [hI.1]
    exact K _ _ _ _ hI.2
  · intro m i p hi hI L
    refine br_f (wk_ge8 hi) (xq_at hi h2 hP hI.2 fun kn' h' b' t' hq => br_c (fun hz => ?_) (fun hz => ?_))
    · refine nm_r (wk_or0 _) (nm_r (nI_1 i) (L (p.1, kn', h', b', t') ⟨?_, Or.inr hq⟩))
      have z := (wk_pos (wk_Alt st mk ow iw kd lb h2 hi)).mp hz
      show p.1 = nI (wk_o (fun v => if 0 < wk_A (wk_C st mk ow iw kd lb sz) v then 2 ^ v else 0) i ||| (if 0 < wk_A (wk_C st mk ow iw kd lb sz) i then 2 ^ i else 0))
      rw [if_neg (by omega), Nat.or_zero]
      exact hI.1
    · refine nm_e (nm_r (nI_1 i) (L (p.1 ||| ((1 : Int32) <<< (nI i &&& 31)), kn', h', b', t') ⟨?_, Or.inr hq⟩))
      have z : 0 < wk_A (wk_C st mk ow iw kd lb sz) i := by
        by_cases q : wk_A (wk_C st mk ow iw kd lb sz) i = 0
        · exact absurd ((wk_pos (wk_Alt st mk ow iw kd lb h2 hi)).mpr q) hz
        · omega
      show p.1 ||| ((1 : Int32) <<< (nI i &&& 31)) = nI (wk_o (fun v => if 0 < wk_A (wk_C st mk ow iw kd lb sz) v then 2 ^ v else 0) i ||| (if 0 < wk_A (wk_C st mk ow iw kd lb sz) i then 2 ^ i else 0))
      rw [if_pos z, hI.1, wk_sh hi, wk_or]
theorem wk_reach (M : Nat → Nat → Nat) : wk_o (fun c => if 0 < M (c / 8) (c % 8) then 2 ^ (c % 8) else 0) 64 = wk_o (fun v => if 0 < wk_A M v then 2 ^ v else 0) 8 := by
  refine wk_oe fun j => ⟨?_, ?_⟩
  · rintro ⟨c, hc, h⟩
    obtain ⟨hp, e⟩ := (wk_pt _ _).mp h
    refine ⟨j, by omega, (wk_pt _ _).mpr ⟨?_, rfl⟩⟩
    rw [e] at hp
    exact Nat.lt_of_lt_of_le hp (wk_mem (f := fun s => M s j) (n := 8) (i := c / 8) (by omega))
  · rintro ⟨v, hv, h⟩
    obtain ⟨hp, e⟩ := (wk_pt _ _).mp h
    by_cases q : ∃ s, s < 8 ∧ 0 < M s v
    · obtain ⟨s, hs, h0⟩ := q
      refine ⟨8 * s + v, by omega, (wk_pt _ _).mpr ?_⟩
      rw [show (8 * s + v) / 8 = s from by omega, show (8 * s + v) % 8 = v from by omega]
      exact ⟨h0, e⟩
    · exfalso
      have : wk_A M v = 0 := wk_z fun s hs => by
        by_cases r : M s v = 0
        · exact r
        · exact absurd ⟨s, hs, by omega⟩ q
      omega
theorem yq_reached {post : Int32 → SY → Prop} (h1 : ec ≤ 10) (h2 : sz ≤ 6) (hE : wk_E ec ow iw bg en la) (hP : wk_P sz kd lb nu)
    (K : ∀ m' h', post (nI (wk_o (fun v => if 0 < wk_A (wk_C st mk ow iw kd lb sz) v then 2 ^ v else 0) 8)) (nI ec, nI sz, st, mk, bg, en, la, kd, nu, m', h')) : wpY_reached post (nI ec, nI sz, st, mk, bg, en, la, kd, nu, nw, th) := by
  unfold wpY_reached
  dsimp only
  refine ys_walk h2 (Nat.le_refl _) h1 hE hP fun m' h' hy => ?_
  refine loop_0 (fun m i x => wY_reached_12 post (nI ec) (nI sz) st mk bg en la kd nu m' h' m x (nI i)) (fun i x => x = nI (wk_o (fun c => if 0 < wk_C st mk ow iw kd lb sz (c / 8) (c % 8) then 2 ^ (c % 8) else 0) i)) 64 0 rfl ?_ ?_
  · intro m x hI
    refine br_t wk_le64 ?_
    rw [hI, wk_reach]
    exact K m' h'
  · intro m i x hi hI L
    have hval : m' (nI i).toNatClampNeg = nI (wk_C st mk ow iw kd lb sz (i / 8) (i % 8)) := by rw [nI_clamp (by omega)]; exact wk_Yj hy hi
    have hlt : wk_C st mk ow iw kd lb sz (i / 8) (i % 8) < 2 ^ 31 := wk_Clt st mk ow iw kd lb h2 (by omega) (by omega)
    refine br_f (wk_ge64 hi) ⟨vp_in_nI hi (by decide), br_c (fun hz => nm_r (nI_1 i) (L x ?_)) (fun hz => ⟨wk_n8, nm_r (e' := nI (wk_o (fun c => if 0 < wk_C st mk ow iw kd lb sz (c / 8) (c % 8) then 2 ^ (c % 8) else 0) (i + 1))) ?_ (nm_r (nI_1 i) (L _ rfl))⟩)⟩
    · have hz2 : nI (wk_C st mk ow iw kd lb sz (i / 8) (i % 8)) ≤ 0 := by rw [← hval]; exact hz
      have z := (wk_pos hlt).mp hz2
      show x = nI (wk_o (fun c => if 0 < wk_C st mk ow iw kd lb sz (c / 8) (c % 8) then 2 ^ (c % 8) else 0) i ||| (if 0 < wk_C st mk ow iw kd lb sz (i / 8) (i % 8) then 2 ^ (i % 8) else 0))
      rw [if_neg (by omega), Nat.or_zero]
      exact hI
    · have z : 0 < wk_C st mk ow iw kd lb sz (i / 8) (i % 8) := by
        by_cases q : wk_C st mk ow iw kd lb sz (i / 8) (i % 8) = 0
        · exact absurd (by rw [hval]; exact (wk_pos hlt).mpr q) hz
        · omega
      show x ||| ((1 : Int32) <<< ((nI i - nI i / 8 * 8) &&& 31)) = nI (wk_o (fun c => if 0 < wk_C st mk ow iw kd lb sz (c / 8) (c % 8) then 2 ^ (c % 8) else 0) i ||| (if 0 < wk_C st mk ow iw kd lb sz (i / 8) (i % 8) then 2 ^ (i % 8) else 0))
      rw [if_pos z, hI, wk_r8 hi, wk_sh (by omega), wk_or]
theorem xq_startsAt {post : Int32 → SX → Prop} {x1 : Int32} {g : Nat → Nat} (hg : ∀ s, s < 8 → g s < 2 ^ 31)
    (H : ∀ (s : Nat) (kn : Int32) (he be tt : Nat → Int32) (Q : Int32 → SX → Prop), s < 8 → (kn = 0 ∨ wk_Q sz st mk ow iw kd lb he tt) → (∀ kn' h' b' t', (kn' = 0 ∨ wk_Q sz st mk ow iw kd lb h' t') → Q (nI (g s)) (nI ec, nI sz, st, kn', mk, ow, iw, kd, lb, h', b', t')) → wpX_between Q (nI ec, nI sz, st, kn, mk, ow, iw, kd, lb, he, be, tt) (nI s) x1)
    (hQ : kn = 0 ∨ wk_Q sz st mk ow iw kd lb he tt)
    (K : ∀ kn' h' b' t', (kn' = 0 ∨ wk_Q sz st mk ow iw kd lb h' t') → post (nI (wk_o (fun s => if 0 < g s then 2 ^ s else 0) 8)) (nI ec, nI sz, st, kn', mk, ow, iw, kd, lb, h', b', t')) : wpX_startsAt post (nI ec, nI sz, st, kn, mk, ow, iw, kd, lb, he, be, tt) x1 := by
  refine loop_0 (fun m i (p : Int32 × Int32 × (Nat → Int32) × (Nat → Int32) × (Nat → Int32)) => wX_startsAt_4 post x1 m p.1 (nI i) (nI ec) (nI sz) st p.2.1 mk ow iw kd lb p.2.2.1 p.2.2.2.1 p.2.2.2.2) (fun i p => p.1 = nI (wk_o (fun s => if 0 < g s then 2 ^ s else 0) i) ∧ (p.2.1 = 0 ∨ wk_Q sz st mk ow iw kd lb p.2.2.1 p.2.2.2.2)) 8 (0, kn, he, be, tt) ⟨rfl, hQ⟩ ?_ ?_
  · intro m p hI
    refine br_t wk_le8 ?_
    rw [hI.1]
    exact K _ _ _ _ hI.2
  · intro m i p hi hI L
    refine br_f (wk_ge8 hi) (H i p.2.1 p.2.2.1 p.2.2.2.1 p.2.2.2.2 _ hi hI.2 fun kn' h' b' t' hq => br_c (fun hz => ?_) (fun hz => ?_))
    · refine nm_r (wk_or0 _) (nm_r (nI_1 i) (L (p.1, kn', h', b', t') ⟨?_, hq⟩))
      have z := (wk_pos (hg i hi)).mp hz
      show p.1 = nI (wk_o (fun s => if 0 < g s then 2 ^ s else 0) i ||| (if 0 < g i then 2 ^ i else 0))
      rw [if_neg (by omega), Nat.or_zero]
      exact hI.1
    · refine nm_e (nm_r (nI_1 i) (L (p.1 ||| ((1 : Int32) <<< (nI i &&& 31)), kn', h', b', t') ⟨?_, hq⟩))
      have z : 0 < g i := by
        by_cases q : g i = 0
        · exact absurd ((wk_pos (hg i hi)).mpr q) hz
        · omega
      show p.1 ||| ((1 : Int32) <<< (nI i &&& 31)) = nI (wk_o (fun s => if 0 < g s then 2 ^ s else 0) i ||| (if 0 < g i then 2 ^ i else 0))
      rw [if_pos z, hI.1, wk_sh hi, wk_or]
theorem yq_startsAt {post : Int32 → SY → Prop} {v : Nat} (hv : v < 8) (h1 : ec ≤ 10) (h2 : sz ≤ 6) (hE : wk_E ec ow iw bg en la) (hP : wk_P sz kd lb nu)
    (K : ∀ m' h', post (nI (wk_o (fun s => if 0 < wk_C st mk ow iw kd lb sz s v then 2 ^ s else 0) 8)) (nI ec, nI sz, st, mk, bg, en, la, kd, nu, m', h')) : wpY_startsAt post (nI ec, nI sz, st, mk, bg, en, la, kd, nu, nw, th) (nI v) := by
  unfold wpY_startsAt
  dsimp only
  refine ys_walk h2 (Nat.le_refl _) h1 hE hP fun m' h' hy => ?_
  refine loop_0 (fun m i x => wY_startsAt_12 post (nI v) (nI ec) (nI sz) st mk bg en la kd nu m' h' m x (nI i)) (fun i x => x = nI (wk_o (fun s => if 0 < wk_C st mk ow iw kd lb sz s v then 2 ^ s else 0) i)) 8 0 rfl ?_ ?_
  · intro m x hI
    refine br_t wk_le8 ?_
    rw [hI]
    exact K m' h'
  · intro m i x hi hI L
    have hval : m' (8 * nI i + nI v).toNatClampNeg = nI (wk_C st mk ow iw kd lb sz i v) := by rw [wk_cy hi hv]; exact hy i v hi hv
    have hlt : wk_C st mk ow iw kd lb sz i v < 2 ^ 31 := wk_Clt st mk ow iw kd lb h2 hi hv
    refine br_f (wk_ge8 hi) (yv1 hv (br_f wk_01 ⟨wk_iy (by omega) (by decide), br_c (fun hz => nm_r (nI_1 i) (L x ?_)) (fun hz => nm_r (e' := nI (wk_o (fun s => if 0 < wk_C st mk ow iw kd lb sz s v then 2 ^ s else 0) (i + 1))) ?_ (nm_r (nI_1 i) (L _ rfl)))⟩))
    · have hz2 : nI (wk_C st mk ow iw kd lb sz i v) ≤ 0 := by rw [← hval]; exact hz
      have z := (wk_pos hlt).mp hz2
      show x = nI (wk_o (fun s => if 0 < wk_C st mk ow iw kd lb sz s v then 2 ^ s else 0) i ||| (if 0 < wk_C st mk ow iw kd lb sz i v then 2 ^ i else 0))
      rw [if_neg (by omega), Nat.or_zero]
      exact hI
    · have z : 0 < wk_C st mk ow iw kd lb sz i v := by
        by_cases q : wk_C st mk ow iw kd lb sz i v = 0
        · exact absurd (by rw [hval]; exact (wk_pos hlt).mpr q) hz
        · omega
      show x ||| ((1 : Int32) <<< (nI i &&& 31)) = nI (wk_o (fun s => if 0 < wk_C st mk ow iw kd lb sz s v then 2 ^ s else 0) i ||| (if 0 < wk_C st mk ow iw kd lb sz i v then 2 ^ i else 0))
      rw [if_pos z, hI, wk_sh hi, wk_or]
theorem xy_dies (h1 : ec ≤ 10) (h2 : sz ≤ 6) (hE : wk_E ec ow iw bg en la) (hP : wk_P sz kd lb nu) (hT : ∀ k, k ≤ sz → tt k = nI (wk_T (wk_C st mk ow iw kd lb k))) :
    ∀ d k : Nat, k + d = sz + 1 → ∃ r : Int32, (∀ post : Int32 → SX → Prop, post r (nI ec, nI sz, st, kn, mk, ow, iw, kd, lb, he, be, tt) → wX_diesAfter_6 post (nI ec) (nI sz) st kn mk ow iw kd lb he be tt (d + 1) (nI k)) ∧ (∀ (post : Int32 → SY → Prop) (nw th : Nat → Int32), (∀ m' h', post r (nI ec, nI sz, st, mk, bg, en, la, kd, nu, m', h')) → wY_diesAfter_2 post (d + 1) (nI k) (nI ec) (nI sz) st mk bg en la kd nu nw th) := by
  intro d
  induction d with
  | zero =>
    intro k hk
    have hlt : nI sz < nI k := nI_lt (by omega) (by omega)
    exact ⟨-1, fun post hp => br_t hlt hp, fun post nw th hp => br_t hlt (hp nw th)⟩
  | succ d ih =>
    intro k hk
    have hlt : ¬ nI sz < nI k := nI_nlt (by omega) (by omega)
    have hc : (nI k).toNatClampNeg = k := nI_clamp (by omega)
    have hv : tt (nI k).toNatClampNeg = nI (wk_T (wk_C st mk ow iw kd lb k)) := by rw [hc]; exact hT k (by omega)
    have hin : vp_in (nI k) 7 := vp_in_nI (by omega) (by decide)
    by_cases z : nI (wk_T (wk_C st mk ow iw kd lb k)) = 0
    · exact ⟨nI k, fun post hp => br_f hlt ⟨hin, br_t (hv.trans z) hp⟩, fun post nw th hp => br_f hlt (yq_after (by omega) h1 h2 hE hP fun m' h' => br_t z (hp m' h'))⟩
    · obtain ⟨r, hx, hy⟩ := ih (k + 1) (by omega)
      exact ⟨r, fun post hp => br_f hlt ⟨hin, br_f (fun q => z (hv.symm.trans q)) (nm_r (nI_1 k) (hx post hp))⟩, fun post nw th hp => br_f hlt (yq_after (by omega) h1 h2 hE hP fun m' h' => br_f z (nm_r (nI_1 k) (hy post m' h' hp)))⟩
end
end
section
theorem i_vc_reached {k : Nat} {u : SX} {v : SY} (I : i_Rel k u v) (hk : k + 4 ≤ 2048) : wpX_reached (fun r u' => wpY_reached (fun r' v' => r' = r ∧ i_Rel (k + 4) u' v') v) u := by
  refine wk_el (P := fun u v => wpX_reached (fun r u' => wpY_reached (fun r' v' => r' = r ∧ i_Rel (k + 4) u' v') v) u) ?_ I
  intro ec sz st kn mk ow iw kd lb he be tt bg en la nu nw th h1 h2 hE hD hP hQ
  exact xq_reached h2 hP hQ fun kn' h' b' t' hq => yq_reached h1 h2 hE hP fun m' th' => ⟨rfl, wk_in h1 h2 hE hD hP hq⟩
theorem i_vc_startsAt {k : Nat} {u : SX} {v : SY} (I : i_Rel k u v) (hk : k + 4 ≤ 2048) (v1 : Int32) : wpX_startsAt (fun r u' => wpY_startsAt (fun r' v' => r' = r ∧ i_Rel (k + 4) u' v') v v1) u v1 := by
  refine wk_el (P := fun u v => wpX_startsAt (fun r u' => wpY_startsAt (fun r' v' => r' = r ∧ i_Rel (k + 4) u' v') v v1) u v1) ?_ I
  intro ec sz st kn mk ow iw kd lb he be tt bg en la nu nw th h1 h2 hE hD hP hQ
  by_cases hv : ∃ j, j < 8 ∧ v1 = nI j
  · obtain ⟨j, hj, rfl⟩ := hv
    refine xq_startsAt (g := fun s => wk_C st mk ow iw kd lb sz s j) (fun s hs => wk_Clt st mk ow iw kd lb h2 hs hj) ?_ hQ fun kn' h' b' t' hq => yq_startsAt hj h1 h2 hE hP fun m' th' => ⟨rfl, wk_in h1 h2 hE hD hP hq⟩
    intro s kn he be tt Q hs hq L
    exact xq_between hs hj h2 hP hq fun kn' h' b' t' hq' => L kn' h' b' t' (Or.inr hq')
  · refine xq_startsAt (g := fun _ => 0) (fun s hs => by decide) ?_ hQ fun kn' h' b' t' hq => ?_
    · intro s kn he be tt Q hs hq L
      unfold wpX_between
      dsimp only
      exact xv1 hs (br_f wk_01 (xv0 hv (br_t (c := (0 : Int32) = 0) rfl (L kn he be tt hq))))
    · unfold wpY_startsAt
      dsimp only
      refine ys_walk h2 (Nat.le_refl _) h1 hE hP fun m' th' _ => ⟨1, ?_⟩
      exact br_f (by decide) (yv0 hv (br_t (c := (0 : Int32) = 0) rfl ⟨rfl, wk_in h1 h2 hE hD hP hq⟩))
theorem i_vc_diesAfter {k : Nat} {u : SX} {v : SY} (I : i_Rel k u v) (hk : k + 4 ≤ 2048) : wpX_diesAfter (fun r u' => wpY_diesAfter (fun r' v' => r' = r ∧ i_Rel (k + 4) u' v') v) u := by
  refine wk_el (P := fun u v => wpX_diesAfter (fun r u' => wpY_diesAfter (fun r' v' => r' = r ∧ i_Rel (k + 4) u' v') v) u) ?_ I
  intro ec sz st kn mk ow iw kd lb he be tt bg en la nu nw th h1 h2 hE hD hP hQ
  unfold wpX_diesAfter wpY_diesAfter
  dsimp only
  refine xt_walk h2 (wk_Pk hP) hQ fun kn' h' b' t' hq => ?_
  obtain ⟨r, hx, hy⟩ := xy_dies (kn := kn') (he := h') (be := b') h1 h2 hE hP hq.2 (sz + 1) 0 (by omega)
  exact ⟨sz + 1 + 1, hx _ ⟨sz + 1 + 1, hy _ nw th fun m' th' => ⟨rfl, wk_in h1 h2 hE hD hP (Or.inr hq)⟩⟩⟩
end
