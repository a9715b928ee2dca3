section
/-! pure pictures over naturals -/
def ck_fo {α : Type} (n : Nat) (k : Nat → α) : α := match n with
  | 0 => k 0
  | Nat.succ m => k (Nat.succ m)
theorem ck_fo_eq {α : Type} (n : Nat) (k : Nat → α) : ck_fo n k = k n := by
  cases n <;> rfl
/-- the image of a place -/
def ck_im (g i : Nat) : Nat := g / 2 ^ (3 * i) % 8
theorem ck_im_lt (g i : Nat) : ck_im g i < 8 := Nat.mod_lt _ (by decide)
def ck_bt (g h i : Nat) : Nat := ck_im h (ck_im g i) * 2 ^ (3 * i)
def ck_boP (g h : Nat) : Nat → Nat
  | 0 => 0
  | i + 1 => ck_boP g h i ||| ck_bt g h i
/-- first g, then h -/
def ck_bo (g h : Nat) : Nat := (((((0 ||| ck_bt g h 0) ||| ck_bt g h 1) ||| ck_bt g h 2) ||| ck_bt g h 3) ||| ck_bt g h 4) ||| ck_bt g h 5
theorem ck_boP6 (g h : Nat) : ck_boP g h 6 = ck_bo g h := rfl
theorem ck_d_lt {d i : Nat} (hd : d < 8) (hi : i < 6) : d * 2 ^ (3 * i) < 262144 := by
  have h1 : 2 ^ (3 * i) ≤ 2 ^ 15 := Nat.pow_le_pow_right (by decide) (by omega)
  have h2 : d * 2 ^ (3 * i) ≤ 7 * 2 ^ 15 := Nat.mul_le_mul (by omega) h1
  exact Nat.lt_of_le_of_lt h2 (by decide)
theorem ck_boP_lt (g h : Nat) : ∀ i, i ≤ 6 → ck_boP g h i < 2 ^ 18 := by
  intro i
  induction i with
  | zero => intro _; exact (by decide : (0 : Nat) < 2 ^ 18)
  | succ i ih =>
    intro hi
    exact Nat.or_lt_two_pow (ih (by omega)) (ck_d_lt (ck_im_lt _ _) (by omega))
theorem ck_bo_lt (g h : Nat) : ck_bo g h < 262144 := ck_boP_lt g h 6 (by decide)
/-- the k-th of a packed list -/
def ck_at (N k : Nat) : Nat := N / 2 ^ (18 * k) % 262144
theorem ck_at_lt (N k : Nat) : ck_at N k < 262144 := Nat.mod_lt _ (by decide)
/-- (how many, the packed list, the mask of its members) -/
def ck_ent (m : Nat) (p : Nat × Nat × Nat) : Nat × Nat × Nat :=
  if p.2.2.testBit m = true then p else (p.1 + 1, p.2.1 + m * 2 ^ (18 * p.1), p.2.2 ||| 2 ^ m)
def ck_gs : List Nat → Nat → Nat × Nat × Nat → Nat × Nat × Nat
  | [], _, p => p
  | h :: t, g, p => ck_gs t g (ck_ent (ck_bo g h) p)
def ck_bf (gens : List Nat) : Nat → Nat → Nat × Nat × Nat → Nat × Nat × Nat
  | 0, _, p => p
  | f + 1, got, p => if p.1 ≤ got then p else ck_bf gens f (got + 1) (ck_gs gens (ck_at p.2.1 got) p)
def ck_p0 : Nat × Nat × Nat := ck_ent 181896 (0, 0, 0)
def ck_run (gens : List Nat) : Nat × Nat × Nat := ck_bf gens 720 0 ck_p0
/-- the cycles' lengths: inner loop (seen, length, at) -/
def ck_shI (g : Nat) : Nat → Nat × Nat × Nat → Nat × Nat × Nat
  | 0, p => p
  | f + 1, p => if p.1 / 2 ^ p.2.2 % 2 = 0 then ck_shI g f (p.1 ||| 2 ^ p.2.2, p.2.1 + 1, ck_im g p.2.2) else p
def ck_shS (g i : Nat) (p : Nat × Nat) : Nat × Nat :=
  ((ck_shI g 6 (p.1, 0, i)).1, if (ck_shI g 6 (p.1, 0, i)).2.1 = 0 then p.2 else p.2 + 2 ^ (4 * (ck_shI g 6 (p.1, 0, i)).2.1 - 4))
def ck_shP (g : Nat) : Nat → Nat × Nat
  | 0 => (0, 0)
  | i + 1 => ck_shS g i (ck_shP g i)
def ck_sh (g : Nat) : Nat := (ck_shP g 6).2
def ck_cs (s : Nat) : List (Nat × Nat) → List (Nat × Nat)
  | [] => [(s, 1)]
  | q :: l => if q.1 = s then (q.1, q.2 + 1) :: l else q :: ck_cs s l
def ck_shs (N : Nat) : Nat → List (Nat × Nat)
  | 0 => []
  | k + 1 => ck_cs (ck_sh (ck_at N k)) (ck_shs N k)
/-- the same for the kernel, forced -/
def ck_gsK {α : Type} : List Nat → Nat → Nat → Nat → Nat → (Nat → Nat → Nat → α) → α
  | [], _, sz, N, M, c => c sz N M
  | h :: t, g, sz, N, M, c => ck_fo (ck_bo g h) fun m => cond (M.testBit m) (ck_gsK t g sz N M c)
      (ck_fo (sz + 1) fun sz' => ck_fo (N + m * 2 ^ (18 * sz)) fun N' => ck_fo (M ||| 2 ^ m) fun M' => ck_gsK t g sz' N' M' c)
theorem ck_gsK_eq {α : Type} : ∀ (l : List Nat) (g sz N M : Nat) (c : Nat → Nat → Nat → α),
    ck_gsK l g sz N M c = c (ck_gs l g (sz, N, M)).1 (ck_gs l g (sz, N, M)).2.1 (ck_gs l g (sz, N, M)).2.2 := by
  intro l
  induction l with
  | nil => intros; rfl
  | cons h t ih =>
    intro g sz N M c
    show ck_fo (ck_bo g h) _ = _
    rw [ck_fo_eq]
    show cond (M.testBit (ck_bo g h)) _ _ = c (ck_gs t g (ck_ent (ck_bo g h) (sz, N, M))).1 (ck_gs t g (ck_ent (ck_bo g h) (sz, N, M))).2.1 (ck_gs t g (ck_ent (ck_bo g h) (sz, N, M))).2.2
    unfold ck_ent
    cases e : M.testBit (ck_bo g h) with
    | true =>
      exact ih g sz N M c
    | false =>
      rw [Bool.cond_false, ck_fo_eq, ck_fo_eq, ck_fo_eq]
      exact ih g _ _ _ c
noncomputable def ck_bfK {α : Type} (gens : List Nat) (c : Nat → Nat → Nat → α) (f : Nat) : Nat → Nat → Nat → Nat → α :=
  Nat.rec (motive := fun _ => Nat → Nat → Nat → Nat → α) (fun _ sz N M => c sz N M)
    (fun _ ih got sz N M => cond (Nat.ble sz got) (c sz N M) (ck_fo (ck_at N got) fun g => ck_fo (got + 1) fun got' => ck_gsK gens g sz N M (fun sz' N' M' => ih got' sz' N' M'))) f
theorem ck_bfK_eq {α : Type} (gens : List Nat) (c : Nat → Nat → Nat → α) : ∀ (f got sz N M : Nat),
    ck_bfK gens c f got sz N M = c (ck_bf gens f got (sz, N, M)).1 (ck_bf gens f got (sz, N, M)).2.1 (ck_bf gens f got (sz, N, M)).2.2 := by
  intro f
  induction f with
  | zero => intros; rfl
  | succ f ih =>
    intro got sz N M
    show cond (Nat.ble sz got) (c sz N M) (ck_fo (ck_at N got) fun g => ck_fo (got + 1) fun got' => ck_gsK gens g sz N M (fun sz' N' M' => ck_bfK gens c f got' sz' N' M')) = _
    rw [ck_fo_eq, ck_fo_eq, ck_gsK_eq, ih]
    show cond (Nat.ble sz got) (c sz N M) (c (ck_bf gens f (got + 1) (ck_gs gens (ck_at N got) (sz, N, M))).1 (ck_bf gens f (got + 1) (ck_gs gens (ck_at N got) (sz, N, M))).2.1 (ck_bf gens f (got + 1) (ck_gs gens (ck_at N got) (sz, N, M))).2.2) = _
    unfold ck_bf
    cases e : Nat.ble sz got with
    | true =>
      have e' : (sz, N, M).1 ≤ got := Nat.le_of_ble_eq_true e
      rw [if_pos e']
      rfl
    | false =>
      have e' : ¬ (sz, N, M).1 ≤ got := fun z => by
        have := Nat.ble_eq_true_of_le z
        rw [show (sz, N, M).1 = sz from rfl, e] at this
        exact Bool.noConfusion this
      rw [if_neg e']
      cases f <;> rfl
def ck_csK {α : Type} (s : Nat) : List (Nat × Nat) → (List (Nat × Nat) → α) → α
  | [], c => c [(s, 1)]
  | q :: l, c => cond (Nat.beq q.1 s) (ck_fo (q.2 + 1) fun n => c ((q.1, n) :: l)) (ck_csK s l (fun l' => c (q :: l')))
theorem ck_csK_eq {α : Type} (s : Nat) : ∀ (l : List (Nat × Nat)) (c : List (Nat × Nat) → α), ck_csK s l c = c (ck_cs s l) := by
  intro l
  induction l with
  | nil => intros; rfl
  | cons q l ih =>
    intro c
    show cond (Nat.beq q.1 s) (ck_fo (q.2 + 1) fun n => c ((q.1, n) :: l)) (ck_csK s l (fun l' => c (q :: l'))) = c (if q.1 = s then (q.1, q.2 + 1) :: l else q :: ck_cs s l)
    rw [ck_fo_eq, ih]
    cases e : Nat.beq q.1 s with
    | true =>
      rw [if_pos (Nat.eq_of_beq_eq_true e)]
      rfl
    | false =>
      rw [if_neg (Nat.ne_of_beq_eq_false e)]
      rfl
noncomputable def ck_shK {α : Type} (N : Nat) (c : List (Nat × Nat) → α) (f : Nat) : Nat → List (Nat × Nat) → α :=
  Nat.rec (motive := fun _ => Nat → List (Nat × Nat) → α) (fun _ l => c l)
    (fun _ ih k l => ck_fo (ck_sh (ck_at N k)) fun s => ck_fo (k + 1) fun k' => ck_csK s l (fun l' => ih k' l')) f
theorem ck_shK_eq {α : Type} (N : Nat) (c : List (Nat × Nat) → α) : ∀ (f k : Nat), ck_shK N c f k (ck_shs N k) = c (ck_shs N (k + f)) := by
  intro f
  induction f with
  | zero => intros; rfl
  | succ f ih =>
    intro k
    show (ck_fo (ck_sh (ck_at N k)) fun s => ck_fo (k + 1) fun k' => ck_csK s (ck_shs N k) (fun l' => ck_shK N c f k' l')) = _
    rw [ck_fo_eq, ck_fo_eq, ck_csK_eq]
    show ck_shK N c f (k + 1) (ck_shs N (k + 1)) = _
    rw [ih, show k + 1 + f = k + (f + 1) by omega]
/-- all of a run: how many, and the list of shapes -/
noncomputable def ck_allK (gens : List Nat) : Nat × List (Nat × Nat) :=
  ck_fo (2 ^ 181896) fun M => ck_bfK gens (fun sz N _ => ck_shK N (fun l => (sz, l)) sz 0 []) 720 0 1 181896 M
theorem ck_ent0 (m : Nat) : ck_ent m (0, 0, 0) = (1, m, 2 ^ m) := by
  unfold ck_ent
  rw [if_neg (show ¬ ((0, 0, 0) : Nat × Nat × Nat).2.2.testBit m = true from fun z => by rw [show ((0, 0, 0) : Nat × Nat × Nat).2.2 = 0 from rfl, Nat.zero_testBit] at z; exact Bool.noConfusion z)]
  show (0 + 1, 0 + m * 2 ^ (18 * 0), 0 ||| 2 ^ m) = _
  rw [Nat.zero_or, show 18 * 0 = 0 from rfl, Nat.pow_zero, Nat.mul_one, Nat.zero_add, Nat.zero_add]
theorem ck_p0_eq : ck_p0 = (1, 181896, 2 ^ 181896) := ck_ent0 181896
theorem ck_allK_eq (gens : List Nat) : ck_allK gens = ((ck_run gens).1, ck_shs (ck_run gens).2.1 (ck_run gens).1) := by
  unfold ck_allK ck_run
  rw [ck_fo_eq, ck_bfK_eq, ck_p0_eq]
  have h := fun (N sz : Nat) => ck_shK_eq N (fun l => (sz, l)) sz 0
  generalize ck_bf gens 720 0 (1, 181896, 2 ^ 181896) = p
  have h1 := h p.2.1 p.1
  rw [Nat.zero_add] at h1
  exact h1
end
section
/-! sums over a list of shapes; ways; colourings; the law's own loops -/
def ck_cy (t l : Nat) : Nat := t / 2 ^ (4 * l - 4) % 16
theorem ck_cy_lt (t l : Nat) : ck_cy t l < 16 := Nat.mod_lt _ (by decide)
def ck_acP (t : Nat) : Nat → Nat
  | 0 => 0
  | j + 1 => ck_acP t j + ck_cy t (j + 1)
def ck_ac (t : Nat) : Nat := ck_acP t 6
theorem ck_acP_lt (t : Nat) : ∀ j, ck_acP t j ≤ 15 * j := by
  intro j
  induction j with
  | zero => exact Nat.le_refl 0
  | succ j ih =>
    have h := ck_cy_lt t (j + 1)
    show ck_acP t j + ck_cy t (j + 1) ≤ 15 * (j + 1)
    omega
theorem ck_ac_lt (t : Nat) : ck_ac t ≤ 90 := ck_acP_lt t 6
def ck_sm (f : Nat → Nat) : List (Nat × Nat) → Nat
  | [] => 0
  | q :: l => q.2 * f q.1 + ck_sm f l
theorem ck_sm_app (f : Nat → Nat) (q : Nat × Nat) : ∀ l, ck_sm f (l ++ [q]) = ck_sm f l + q.2 * f q.1 := by
  intro l
  induction l with
  | nil => show q.2 * f q.1 + 0 = 0 + q.2 * f q.1; omega
  | cons a l ih =>
    show a.2 * f a.1 + ck_sm f (l ++ [q]) = a.2 * f a.1 + ck_sm f l + q.2 * f q.1
    rw [ih]
    omega
theorem ck_sm_take (f : Nat → Nat) (L : List (Nat × Nat)) (i : Nat) (h : i < L.length) : ck_sm f (L.take (i + 1)) = ck_sm f (L.take i) + (L[i]'h).2 * f (L[i]'h).1 := by
  rw [List.take_succ_eq_append_getElem h, ck_sm_app]
theorem ck_sm_all (f : Nat → Nat) (L : List (Nat × Nat)) : ck_sm f (L.take L.length) = ck_sm f L := by
  rw [List.take_length]
def ck_pr (t : Nat) : Nat := ck_cy t 1 * (ck_cy t 1 - 1) / 2 + ck_cy t 2
def ck_wc (k t : Nat) : Nat := if ck_ac t = k then 1 else 0
def ck_sc (c l : Nat) : Nat := if l % 2 = 0 then c else c - 2
def ck_seP (c t : Nat) : Nat → Nat
  | 0 => 1
  | j + 1 => ck_seP c t j * ck_sc c (j + 1) ^ ck_cy t (j + 1)
/-- ways -/
def ck_w0 (m n : Nat) : Nat := if 7 * m + n = 0 then 1 else 0
def ck_tk (c l : Nat) (W : Nat → Nat → Nat) (m n : Nat) : Nat :=
  (if c = 3 then W m n else 0) + (if m < l then 0 else W (m - l) n) + (if c ≤ 1 then 0 else if n < l then 0 else W m (n - l))
def ck_rep (c l : Nat) : Nat → (Nat → Nat → Nat) → Nat → Nat → Nat
  | 0, W => W
  | k + 1, W => ck_tk c l (ck_rep c l k W)
def ck_lwP (c t : Nat) : Nat → Nat → Nat → Nat
  | 0 => ck_w0
  | j + 1 => ck_rep c (j + 1) (ck_cy t (j + 1)) (ck_lwP c t j)
def ck_lw (c m n t : Nat) : Nat := ck_lwP c t 6 m n
/-- colourings -/
def ck_caS (c g i : Nat) (p : Nat × Nat) : Nat × Nat := (p.1 / c, p.2 + p.1 % c * c ^ ck_im g i)
def ck_caP (c col g : Nat) : Nat → Nat × Nat
  | 0 => (col, 0)
  | i + 1 => ck_caS c g i (ck_caP c col g i)
def ck_ca (c col g : Nat) : Nat := (ck_caP c col g 6).2
def ck_leP (c col N : Nat) : Nat → Nat
  | 0 => col
  | k + 1 => if ck_leP c col N k ≤ ck_ca c col (ck_at N k) then ck_leP c col N k else ck_ca c col (ck_at N k)
def ck_szP (c col N : Nat) : Nat → Nat
  | 0 => 0
  | k + 1 => if ck_ca c col (ck_at N k) = col then ck_szP c col N k + 1 else ck_szP c col N k
/-- the law's second loop: (least, now, size) -/
def ck_no (c al x : Nat) : Nat := if c = 1 then 0 else (x - x / (al / c) * (al / c)) * c + x / (al / c)
def ck_llS (c al col i : Nat) (p : Nat × Nat × Nat) : Nat × Nat × Nat :=
  (if p.1 ≤ ck_no c al p.2.1 then p.1 else ck_no c al p.2.1, ck_no c al p.2.1, if ck_no c al p.2.1 = col then p.2.2 else if p.2.2 = i + 1 then i + 2 else p.2.2)
def ck_llP (c al col : Nat) : Nat → Nat × Nat × Nat
  | 0 => (col, col, 1)
  | i + 1 => ck_llS c al col i (ck_llP c al col i)
/-- the law's first loop: (turned, mirrored, swapped, unit) -/
def ck_sw (s i : Nat) : Nat := if i = s then (s + 1) % 6 else if i = (s + 1) % 6 then s else i
def ck_coS (s i : Nat) (p : Nat × Nat × Nat × Nat) : Nat × Nat × Nat × Nat :=
  (p.1 + (i + 1) % 6 * p.2.2.2, p.2.1 + (s + 6 - i) % 6 * p.2.2.2, p.2.2.1 + ck_sw s i * p.2.2.2, 6 * p.2.2.2)
def ck_co (s : Nat) : Nat → Nat × Nat × Nat × Nat
  | 0 => (0, 0, 0, 1)
  | i + 1 => ck_coS s i (ck_co s i)
/-- from a code to digits of its own: (out, seen, rest) -/
def ck_inS (i : Nat) (p : Nat × Nat × Nat) : Nat × Nat × Nat := (p.1 ||| p.2.2 % 6 * 2 ^ (3 * i), p.2.1 ||| 2 ^ (p.2.2 % 6), p.2.2 / 6)
def ck_inP (code : Nat) : Nat → Nat × Nat × Nat
  | 0 => (0, 0, code)
  | i + 1 => ck_inS i (ck_inP code i)
def ck_ou (g : Nat) : Nat := (((((0 * 6 + ck_im g 5) * 6 + ck_im g 4) * 6 + ck_im g 3) * 6 + ck_im g 2) * 6 + ck_im g 1) * 6 + ck_im g 0
end
section
/-! facts, by the kernel's own evaluation (printed by facts.py) -/
def ck_gM : Nat → Nat
  | 0 => 42792
  | 1 => 80193
  | 2 => 117258
  | 3 => 151635
  | 4 => 164508
  | _ => 5349
def ck_gW : Nat → Nat
  | 0 => 181889
  | 1 => 181840
  | 2 => 181448
  | 3 => 178312
  | 4 => 153224
  | _ => 18061
def ck_cM : Nat → Nat
  | 0 => 11190
  | 1 => 20485
  | 2 => 29600
  | 3 => 37635
  | 4 => 39190
  | _ => 1865
def ck_cW : Nat → Nat
  | 0 => 44785
  | 1 => 44760
  | 2 => 44610
  | 3 => 43710
  | 4 => 38310
  | _ => 5915
def ck_L2 : Nat → List (Nat × Nat)
  | 0 => [(6, 1), (1048576, 2), (34, 3), (512, 2), (48, 4)]
  | 1 => [(6, 1), (1048576, 2), (48, 4), (512, 2), (34, 3)]
  | 2 => [(6, 1), (1048576, 2), (34, 3), (512, 2), (48, 4)]
  | 3 => [(6, 1), (1048576, 2), (48, 4), (512, 2), (34, 3)]
  | 4 => [(6, 1), (1048576, 2), (34, 3), (512, 2), (48, 4)]
  | _ => [(6, 1), (1048576, 2), (48, 4), (512, 2), (34, 3)]
def ck_L3 : Nat → List (Nat × Nat)
  | 0 => [(6, 1), (1048576, 120), (34, 45), (20, 15), (512, 40), (48, 15), (65537, 144), (273, 120), (4112, 90), (4098, 90), (259, 40)]
  | 1 => [(6, 1), (1048576, 120), (48, 15), (20, 15), (512, 40), (34, 45), (65537, 144), (4112, 90), (4098, 90), (273, 120), (259, 40)]
  | 2 => [(6, 1), (1048576, 120), (34, 45), (20, 15), (512, 40), (48, 15), (65537, 144), (4098, 90), (4112, 90), (273, 120), (259, 40)]
  | 3 => [(6, 1), (1048576, 120), (48, 15), (20, 15), (512, 40), (34, 45), (65537, 144), (4112, 90), (273, 120), (4098, 90), (259, 40)]
  | 4 => [(6, 1), (1048576, 120), (34, 45), (20, 15), (512, 40), (48, 15), (65537, 144), (273, 120), (4112, 90), (4098, 90), (259, 40)]
  | _ => [(6, 1), (1048576, 120), (48, 15), (20, 15), (512, 40), (34, 45), (65537, 144), (273, 120), (4112, 90), (4098, 90), (259, 40)]
def ck_L1 : List (Nat × Nat) := [(6, 1), (1048576, 2), (512, 2), (48, 1)]
def ck_L0 : List (Nat × Nat) := [(6, 1)]
def ck_N6 : Nat := 178824658034928537166852250846856
theorem ck_f0 : ck_allK [] = (1, ck_L0) := by decide +kernel
theorem ck_f1 : ck_allK [22737] = (6, ck_L1) := by decide +kernel
theorem ck_f1N : ck_bfK [22737] (fun _ N _ => N) 720 0 1 181896 (2 ^ 181896) = ck_N6 := by decide +kernel
theorem ck_f2_0 : ck_allK [22737, 42792] = (12, ck_L2 0) := by decide +kernel
theorem ck_f2_1 : ck_allK [22737, 80193] = (12, ck_L2 1) := by decide +kernel
theorem ck_f2_2 : ck_allK [22737, 117258] = (12, ck_L2 2) := by decide +kernel
theorem ck_f2_3 : ck_allK [22737, 151635] = (12, ck_L2 3) := by decide +kernel
theorem ck_f2_4 : ck_allK [22737, 164508] = (12, ck_L2 4) := by decide +kernel
theorem ck_f2_5 : ck_allK [22737, 5349] = (12, ck_L2 5) := by decide +kernel
theorem ck_f3_0 : ck_allK [22737, 42792, 181889] = (720, ck_L3 0) := by decide +kernel
theorem ck_f3_1 : ck_allK [22737, 80193, 181840] = (720, ck_L3 1) := by decide +kernel
theorem ck_f3_2 : ck_allK [22737, 117258, 181448] = (720, ck_L3 2) := by decide +kernel
theorem ck_f3_3 : ck_allK [22737, 151635, 178312] = (720, ck_L3 3) := by decide +kernel
theorem ck_f3_4 : ck_allK [22737, 164508, 153224] = (720, ck_L3 4) := by decide +kernel
theorem ck_f3_5 : ck_allK [22737, 5349, 18061] = (720, ck_L3 5) := by decide +kernel
theorem ck_fco : ∀ s, s < 6 → (ck_co s 6).1 = 7465 ∧ (ck_co s 6).2.1 = ck_cM s ∧ (ck_co s 6).2.2.1 = ck_cW s := by decide +kernel
theorem ck_fcl : ∀ s, s < 6 → ck_cM s < 46656 ∧ ck_cW s < 46656 ∧ ck_gM s < 262144 ∧ ck_gW s < 262144 := by decide +kernel
theorem ck_finT : ck_inP 7465 6 = (22737, 63, 0) := by decide +kernel
theorem ck_finM : ∀ s, s < 6 → ck_inP (ck_cM s) 6 = (ck_gM s, 63, 0) := by decide +kernel
theorem ck_finW : ∀ s, s < 6 → ck_inP (ck_cW s) 6 = (ck_gW s, 63, 0) := by decide +kernel
theorem ck_fin0 : (ck_inP 0 6).2.1 = 1 := by decide +kernel
theorem ck_finX : (ck_inP 46656 6).2.1 = 1 := by decide +kernel
theorem ck_fouT : ck_ou 22737 = 7465 := by decide +kernel
theorem ck_fouM : ∀ s, s < 6 → ck_ou (ck_gM s) = ck_cM s := by decide +kernel
theorem ck_fouW : ∀ s, s < 6 → ck_ou (ck_gW s) = ck_cW s := by decide +kernel
def ck_v3 (c a b d : Nat) : Nat := if c = 1 then a else if c = 2 then b else d
theorem ck_k0 : ∀ c, c < 4 → 0 < c → ck_sm (fun t => c ^ ck_ac t) ck_L0 < 2147483648 ∧ ck_sm (fun t => c ^ ck_ac t) ck_L0 / 1 = ck_v3 c 1 64 729 := by decide +kernel
theorem ck_k1 : ∀ c, c < 4 → 0 < c → ck_sm (fun t => c ^ ck_ac t) ck_L1 < 2147483648 ∧ ck_sm (fun t => c ^ ck_ac t) ck_L1 / 6 = ck_v3 c 1 14 130 := by decide +kernel
theorem ck_k2 : ∀ s, s < 6 → ∀ c, c < 4 → 0 < c → ck_sm (fun t => c ^ ck_ac t) (ck_L2 s) < 2147483648 ∧ ck_sm (fun t => c ^ ck_ac t) (ck_L2 s) / 12 = ck_v3 c 1 13 92 := by decide +kernel
theorem ck_k3 : ∀ s, s < 6 → ∀ c, c < 4 → 0 < c → ck_sm (fun t => c ^ ck_ac t) (ck_L3 s) < 2147483648 ∧ ck_sm (fun t => c ^ ck_ac t) (ck_L3 s) / 720 = ck_v3 c 1 7 28 := by decide +kernel
theorem ck_o1 : ck_sm (fun t => ck_cy t 1) ck_L1 < 2147483648 ∧ ck_sm (fun t => ck_cy t 1) ck_L1 / 6 = 1 := by decide +kernel
theorem ck_o3 : ∀ s, s < 6 → ck_sm (fun t => ck_cy t 1) (ck_L3 s) < 2147483648 ∧ ck_sm (fun t => ck_cy t 1) (ck_L3 s) / 720 = 1 := by decide +kernel
theorem ck_r1 : ck_sm (ck_pr) ck_L1 < 2147483648 ∧ ck_sm (ck_pr) ck_L1 / 6 = 3 := by decide +kernel
theorem ck_r3 : ∀ s, s < 6 → ck_sm (ck_pr) (ck_L3 s) < 2147483648 ∧ ck_sm (ck_pr) (ck_L3 s) / 720 = 1 := by decide +kernel
theorem ck_w24 : ∀ c, c < 4 → 0 < c → ck_sm (fun t => ck_lw c 2 4 t) ck_L1 < 2147483648 ∧ ck_sm (fun t => ck_lw c 2 4 t) ck_L1 / 6 = ck_v3 c 0 3 3 := by decide +kernel
theorem ck_w33 : ∀ c, c < 4 → 0 < c → ck_sm (fun t => ck_lw c 3 3 t) ck_L1 < 2147483648 ∧ ck_sm (fun t => ck_lw c 3 3 t) ck_L1 / 6 = ck_v3 c 0 4 4 := by decide +kernel
theorem ck_w33b : ∀ s, s < 6 → ∀ c, c < 4 → 0 < c → ck_sm (fun t => ck_lw c 3 3 t) (ck_L2 s) < 2147483648 ∧ ck_sm (fun t => ck_lw c 3 3 t) (ck_L2 s) / 12 = ck_v3 c 0 3 3 := by decide +kernel
theorem ck_w22 : ∀ s, s < 6 → ∀ c, c < 4 → 0 < c → ck_sm (fun t => ck_lw c 2 2 t) (ck_L3 s) < 2147483648 ∧ ck_sm (fun t => ck_lw c 2 2 t) (ck_L3 s) / 720 = ck_v3 c 0 0 1 := by decide +kernel
theorem ck_s2 : ∀ s, s < 6 → ck_sm (fun t => ck_seP 2 t 6) (ck_L2 s) < 2147483648 ∧ ck_sm (fun t => ck_seP 2 t 6) (ck_L2 s) / 12 = 3 := by decide +kernel
theorem ck_s3 : ∀ s, s < 6 → ∀ c, c < 4 → 1 < c → ck_sm (fun t => ck_seP c t 6) (ck_L3 s) < 2147483648 ∧ ck_sm (fun t => ck_seP c t 6) (ck_L3 s) / 720 = ck_v3 c 1 1 4 := by decide +kernel
theorem ck_wc1 : ck_sm (ck_wc 1) ck_L1 = 2 ∧ ck_sm (ck_wc 2) ck_L1 = 2 ∧ ck_sm (ck_wc 3) ck_L1 = 1 ∧ ck_sm (ck_wc 6) ck_L1 = 1 := by decide +kernel
theorem ck_wc3 : ∀ s, s < 6 → ck_sm (ck_wc 1) (ck_L3 s) = 120 ∧ ck_sm (ck_wc 5) (ck_L3 s) = 15 ∧ ck_sm (ck_wc 0) (ck_L3 s) = 0 ∧ ck_sm (ck_wc 7) (ck_L3 s) = 0 := by decide +kernel
/-- colourings under the six turns -/
def ck_chk (c al col : Nat) : Bool :=
  ck_fo (ck_llP c al col 5).1 fun le => Nat.beq (ck_leP c col ck_N6 6) le && Nat.beq (ck_leP c le ck_N6 6) le && Nat.blt le al && Nat.blt 0 (ck_szP c col ck_N6 6) && Nat.beq (6 / ck_szP c col ck_N6 6) (ck_llP c al col 5).2.2
noncomputable def ck_up (p : Nat → Bool) (n : Nat) : Bool := Nat.rec (motive := fun _ => Bool) true (fun k ih => cond (p k) ih false) n
theorem ck_up_of (p : Nat → Bool) : ∀ n, ck_up p n = true → ∀ k, k < n → p k = true := by
  intro n
  induction n with
  | zero => intro _ k hk; exact absurd hk (by omega)
  | succ n ih =>
    intro h k hk
    have h' : cond (p n) (ck_up p n) false = true := h
    cases e : p n with
    | false => rw [e] at h'; exact Bool.noConfusion h'
    | true =>
      rw [e] at h'
      by_cases z : k = n
      · rw [z, e]
      · exact ih h' k (by omega)
theorem ck_c1 : ck_up (ck_chk 1 1) 1 = true := by decide +kernel
theorem ck_c2 : ck_up (ck_chk 2 64) 64 = true := by decide +kernel
theorem ck_c3 : ck_up (ck_chk 3 729) 729 = true := by decide +kernel
end
section
/-! the methods that change nothing -/
section
variable {f0 f1 f2 f3 f4 : Int32} {a1 a2 a3 a4 a5 a6 : Nat → Int32}
theorem ck_sh3 : ∀ i, i < 8 → (((3 * nI i) &&& 31).toBitVec.smod 32).toNat = 3 * i := by decide +kernel
theorem ck_sh4 : ∀ l, l < 7 → 0 < l → (((4 * nI l - 4) &&& 31).toBitVec.smod 32).toNat = 4 * l - 4 := by decide +kernel
theorem ck_sh1 : ∀ a, a < 8 → ((nI a &&& 31).toBitVec.smod 32).toNat = a := by decide +kernel
theorem ck_one : ∀ d, d < 8 → (1 : Int32) <<< (nI d &&& 31) = nI (2 ^ d) := by decide +kernel
theorem ck_one4 : ∀ l, l < 7 → 0 < l → (1 : Int32) <<< ((4 * nI l - 4) &&& 31) = nI (2 ^ (4 * l - 4)) := by decide +kernel
theorem ck_or (a b : Nat) : nI a ||| nI b = nI (a ||| b) := by
  apply Int32.toBitVec_inj.1
  show BitVec.ofNat 32 a ||| BitVec.ofNat 32 b = BitVec.ofNat 32 (a ||| b)
  apply BitVec.eq_of_getLsbD_eq
  intro i hi
  simp [hi]
theorem ck_image {post : Int32 → Prop} {u : St2} {g i : Nat} (hg : g < 2 ^ 31) (hi : i < 8) (h : post (nI (ck_im g i))) : wpX_image post u (nI g) (nI i) := by
  obtain ⟨b0, b1, b2, b3, b4, c1, c2, c3, c4, c5, c6⟩ := u
  show post ((nI g >>> ((3 * nI i) &&& 31)) &&& 7)
  rw [pk_shrN hg _ _ (ck_sh3 i hi), pk_andN (Nat.lt_of_le_of_lt (Nat.div_le_self _ _) (by omega)) 3 (by decide)]
  exact h
theorem ck_cyc {post : Int32 → Prop} {u : St2} {t l : Nat} (ht : t < 2 ^ 31) (h0 : 0 < l) (hl : l < 7) (h : post (nI (ck_cy t l))) : wpX_cyclesOf post u (nI t) (nI l) := by
  obtain ⟨b0, b1, b2, b3, b4, c1, c2, c3, c4, c5, c6⟩ := u
  show post ((nI t >>> (((4 * nI l) - 4) &&& 31)) &&& 15)
  rw [pk_shrN ht _ _ (ck_sh4 l hl h0), pk_andN (Nat.lt_of_le_of_lt (Nat.div_le_self _ _) (by omega)) 4 (by decide)]
  exact h
theorem ck_shl3 {d i : Nat} (hd : d < 8) (hi : i < 6) : nI d <<< ((3 * nI i) &&& 31) = nI (d * 2 ^ (3 * i)) :=
  pk_shlN _ _ (ck_sh3 i (by omega)) (Nat.lt_trans (ck_d_lt hd hi) (by decide))
theorem ck_both {post : Int32 → Prop} {g h : Nat} (hg : g < 2 ^ 31) (hh : h < 2 ^ 31) (hp : post (nI (ck_bo g h))) : wpX_both post (f0, f1, f2, f3, f4, a1, a2, a3, a4, a5, a6) (nI g) (nI h) :=
  pk_loop (σ := Unit) (fun n i _ => wX_both_5 post (nI g) (nI h) f0 f1 f2 f3 f4 a1 a2 a3 a4 a5 a6 n (nI (ck_boP g h i)) (nI i)) (fun _ _ => True) 6 0 () (by omega) trivial
    (fun n _ _ => pk_le 6 6 (fun _ => hp) (fun z => absurd z (by omega)))
    (fun n i _ hi _ hw => pk_le 6 i (fun z => absurd z (by omega)) (fun _ => ck_image hg (by omega) (ck_image hh (ck_im_lt _ _) (nm_r (e' := nI (ck_boP g h (i + 1))) (by rw [ck_shl3 (ck_im_lt _ _) hi, ck_or]; rfl) (nm_r (nI_1 i) (hw () trivial))))))
theorem ck_power {post : Int32 → Prop} {a m : Nat} (hm : m < 2 ^ 31) (hp : post (nI (a ^ m))) : wpX_power post (f0, f1, f2, f3, f4, a1, a2, a3, a4, a5, a6) (nI a) (nI m) :=
  pk_loop (σ := Unit) (fun n i _ => wX_power_5 post (nI a) (nI m) f0 f1 f2 f3 f4 a1 a2 a3 a4 a5 a6 n (nI (a ^ i)) (nI i)) (fun _ _ => True) m 0 () (by omega) trivial
    (fun n _ _ => pk_le m m (fun _ => hp) (fun z => absurd z (by omega)))
    (fun n i _ hi _ hw => pk_le m i (fun z => absurd z (by omega)) (fun _ => nm_r (pk_mul _ _) (nm_r (nI_1 i) (hw () trivial))))
theorem ck_allC {post : Int32 → Prop} {t : Nat} (ht : t < 2 ^ 31) (hp : post (nI (ck_ac t))) : wpX_allCycles post (f0, f1, f2, f3, f4, a1, a2, a3, a4, a5, a6) (nI t) :=
  pk_loop (σ := Unit) (fun n i _ => wX_allCycles_4 post (nI t) f0 f1 f2 f3 f4 a1 a2 a3 a4 a5 a6 n (nI (ck_acP t i)) (nI (i + 1))) (fun _ _ => True) 6 0 () (by omega) trivial
    (fun n _ _ => pk_lt 6 7 (fun _ => hp) (fun z => absurd z (by omega)))
    (fun n i _ hi _ hw => pk_lt 6 (i + 1) (fun z => absurd z (by omega)) (fun _ => ck_cyc ht (by omega) (by omega) (nm_r (nI_add _ _) (nm_r (nI_1 (i + 1)) (hw () trivial)))))
theorem ck_inP_le (code : Nat) : ∀ i, (ck_inP code i).2.2 ≤ code := by
  intro i
  induction i with
  | zero => exact Nat.le_refl _
  | succ i ih => exact Nat.le_trans (Nat.div_le_self _ _) ih
theorem ck_inside {post : Int32 → Prop} {code : Nat} (hc : code < 2 ^ 31)
    (hx : ((nI (ck_inP code 6).2.1 = 63 → ((nI (ck_inP code 6).2.2 = 0 → post (nI (ck_inP code 6).1)) ∧ (¬ nI (ck_inP code 6).2.2 = 0 → post (-1)))) ∧ (¬ nI (ck_inP code 6).2.1 = 63 → post (-1)))) :
    wpX_inside post (f0, f1, f2, f3, f4, a1, a2, a3, a4, a5, a6) (nI code) :=
  pk_loop (σ := Unit) (fun n i _ => wX_inside_10 post f0 f1 f2 f3 f4 a1 a2 a3 a4 a5 a6 n (nI (ck_inP code i).1) (nI (ck_inP code i).2.1) (nI (ck_inP code i).2.2) (nI i)) (fun _ _ => True) 6 0 () (by omega) trivial
    (fun n _ _ => pk_le 6 6 (fun _ => hx) (fun z => absurd z (by omega)))
    (fun n i _ hi _ hw => pk_le 6 i (fun z => absurd z (by omega)) (fun _ => by
      have hr : (ck_inP code i).2.2 < 2 ^ 31 := Nat.lt_of_le_of_lt (ck_inP_le code i) hc
      have hd : (ck_inP code i).2.2 % 6 < 8 := Nat.lt_trans (Nat.mod_lt _ (by decide)) (by decide)
      exact ⟨by decide, nm_r (pk_rem hr (by decide) (by decide)) ⟨by decide, nm_r (pk_div hr (by decide) (by decide)) (nm_r (e' := nI (ck_inP code (i + 1)).2.1) (by rw [ck_one _ hd, ck_or]; rfl)
        (nm_r (e' := nI (ck_inP code (i + 1)).1) (by rw [ck_shl3 hd hi, ck_or]; rfl) (nm_r (nI_1 i) (hw () trivial))))⟩⟩))
theorem ck_insideT {post : Int32 → Prop} {code g : Nat} (hc : code < 2 ^ 31) (e : ck_inP code 6 = (g, 63, 0)) (hp : post (nI g)) : wpX_inside post (f0, f1, f2, f3, f4, a1, a2, a3, a4, a5, a6) (nI code) :=
  ck_inside hc (by rw [e]; exact br_t rfl (br_t rfl hp))
theorem ck_insideF {post : Int32 → Prop} {code : Nat} (hc : code < 2 ^ 31) (e : (ck_inP code 6).2.1 = 1) (hp : post (-1)) : wpX_inside post (f0, f1, f2, f3, f4, a1, a2, a3, a4, a5, a6) (nI code) :=
  ck_inside hc (by rw [e]; exact br_f (by decide) hp)
theorem ck_h6 (x r : Nat) : nI x * 6 + nI r = nI (x * 6 + r) := by
  rw [show (6 : Int32) = nI 6 from rfl, pk_mul, nI_add]
theorem ck_outside {post : Int32 → Prop} {g : Nat} (hg : g < 2 ^ 31) (hp : post (nI (ck_ou g))) : wpX_outside post (f0, f1, f2, f3, f4, a1, a2, a3, a4, a5, a6) (nI g) :=
  ⟨7, br_f (by decide) (ck_image (i := 5) hg (by decide) (nm_r (ck_h6 0 _) (nm_r (show (5 : Int32) + (-1) = nI 4 by decide)
    (br_f (by decide) (ck_image (i := 4) hg (by decide) (nm_r (ck_h6 _ _) (nm_r (show nI 4 + (-1) = nI 3 by decide)
    (br_f (by decide) (ck_image (i := 3) hg (by decide) (nm_r (ck_h6 _ _) (nm_r (show nI 3 + (-1) = nI 2 by decide)
    (br_f (by decide) (ck_image (i := 2) hg (by decide) (nm_r (ck_h6 _ _) (nm_r (show nI 2 + (-1) = nI 1 by decide)
    (br_f (by decide) (ck_image (i := 1) hg (by decide) (nm_r (ck_h6 _ _) (nm_r (show nI 1 + (-1) = nI 0 by decide)
    (br_f (by decide) (ck_image (i := 0) hg (by decide) (nm_r (ck_h6 _ _) (nm_r (show nI 0 + (-1) = -1 by decide)
    (br_t (by decide) hp))))))))))))))))))))))))⟩
/-- shapeOf -/
theorem ck_bit {x a : Nat} (hx : x < 2 ^ 31) (ha : a < 8) : (((nI x >>> (nI a &&& 31)) &&& 1) = 0) ↔ x / 2 ^ a % 2 = 0 := by
  rw [pk_shrN hx _ _ (ck_sh1 a ha), pk_andN (Nat.lt_of_le_of_lt (Nat.div_le_self _ _) (by omega)) 1 (by decide)]
  have h : x / 2 ^ a % 2 ^ 1 < 2 := Nat.mod_lt _ (by decide)
  exact nI_eq (b := 0) (by omega) (by omega)
theorem ck_sh65 {post : Int32 → Prop} {J7 : Int32 → Int32 → Int32 → Prop} {x1 x2 : Int32} {out i len : Nat} (hl : len < 7)
    (h : J7 x2 (nI (if len = 0 then out else out + 2 ^ (4 * len - 4))) (nI (i + 1))) :
    wX_shapeOf_65 post J7 x1 x2 (nI out) (nI i) (nI len) f0 f1 f2 f3 f4 a1 a2 a3 a4 a5 a6 := by
  unfold wX_shapeOf_65
  refine pk_le len 0 (fun z => nm_r (nI_1 i) ?_) (fun z => nm_r (e' := nI (out + 2 ^ (4 * len - 4))) ?_ (nm_r (nI_1 i) ?_))
  · rw [if_pos (by omega)] at h
    exact h
  · rw [ck_one4 len hl z, nI_add]
  · rw [if_neg (by omega)] at h
    exact h
theorem ck_shIn {post : Int32 → Prop} {J7 : Int32 → Int32 → Int32 → Prop} {g out i : Nat} (hg : g < 2 ^ 31) : ∀ (f k seen len w : Nat), k + f = 6 → len ≤ k → w < 8 → seen < 2 ^ 8 →
    J7 (nI (ck_shI g f (seen, len, w)).1) (nI (if (ck_shI g f (seen, len, w)).2.1 = 0 then out else out + 2 ^ (4 * (ck_shI g f (seen, len, w)).2.1 - 4))) (nI (i + 1)) →
    ∃ n, wX_shapeOf_24 post J7 (nI g) (nI out) (nI i) f0 f1 f2 f3 f4 a1 a2 a3 a4 a5 a6 n (nI seen) (nI len) (nI w) (nI k) := by
  intro f
  induction f with
  | zero =>
    intro k seen len w hk hl hw hs h
    exact ⟨1, pk_le 6 k (fun _ => ck_sh65 (by omega) h) (fun z => absurd z (by omega))⟩
  | succ f ih =>
    intro k seen len w hk hl hw hs h
    have e : ck_shI g (f + 1) (seen, len, w) = if seen / 2 ^ w % 2 = 0 then ck_shI g f (seen ||| 2 ^ w, len + 1, ck_im g w) else (seen, len, w) := rfl
    by_cases z : seen / 2 ^ w % 2 = 0
    · rw [e, if_pos z] at h
      obtain ⟨n, hn⟩ := ih (k + 1) (seen ||| 2 ^ w) (len + 1) (ck_im g w) (by omega) (by omega) (ck_im_lt _ _) (Nat.or_lt_two_pow hs (Nat.pow_lt_pow_right (by decide) hw)) h
      exact ⟨n + 1, pk_le 6 k (fun z => absurd z (by omega)) (fun _ => br_t ((ck_bit (by omega) hw).mpr z) (nm_r (by rw [ck_one w hw, ck_or]) (ck_image hg hw (nm_r (nI_1 len) (nm_r (nI_1 k) hn)))))⟩
    · rw [e, if_neg z] at h
      exact ⟨1, pk_le 6 k (fun z => absurd z (by omega)) (fun _ => br_f (fun y => z ((ck_bit (by omega) hw).mp y)) (ck_sh65 (by omega) h))⟩
theorem ck_shI_lt (g : Nat) : ∀ (f : Nat) (p : Nat × Nat × Nat), p.2.2 < 8 → p.1 < 2 ^ 8 → (ck_shI g f p).1 < 2 ^ 8 := by
  intro f
  induction f with
  | zero => exact fun p _ h => h
  | succ f ih =>
    intro p hw hs
    show (if p.1 / 2 ^ p.2.2 % 2 = 0 then ck_shI g f (p.1 ||| 2 ^ p.2.2, p.2.1 + 1, ck_im g p.2.2) else p).1 < 2 ^ 8
    by_cases z : p.1 / 2 ^ p.2.2 % 2 = 0
    · rw [if_pos z]
      exact ih _ (ck_im_lt _ _) (Nat.or_lt_two_pow hs (Nat.pow_lt_pow_right (by decide) hw))
    · rw [if_neg z]
      exact hs
theorem ck_shP_lt (g : Nat) : ∀ i, i ≤ 6 → (ck_shP g i).1 < 2 ^ 8 := by
  intro i
  induction i with
  | zero => intro _; exact (by decide : 0 < 2 ^ 8)
  | succ i ih => intro h; exact ck_shI_lt g 6 _ (show i < 8 by omega) (ih (by omega))
theorem ck_shape {post : Int32 → Prop} {g : Nat} (hg : g < 2 ^ 31) (hp : post (nI (ck_sh g))) : wpX_shapeOf post (f0, f1, f2, f3, f4, a1, a2, a3, a4, a5, a6) (nI g) :=
  pk_loop (σ := Unit) (fun n i _ => wX_shapeOf_7 post (nI g) f0 f1 f2 f3 f4 a1 a2 a3 a4 a5 a6 n (nI (ck_shP g i).1) (nI (ck_shP g i).2) (nI i)) (fun _ _ => True) 6 0 () (by omega) trivial
    (fun n _ _ => pk_le 6 6 (fun _ => hp) (fun z => absurd z (by omega)))
    (fun n i _ hi _ hw => pk_le 6 i (fun z => absurd z (by omega)) (fun _ => ck_shIn hg 6 0 (ck_shP g i).1 0 i (by omega) (by omega) (by omega) (ck_shP_lt g i (by omega)) (hw () trivial)))
/-- carried -/
theorem ck_caP_le (c col g : Nat) : ∀ i, (ck_caP c col g i).1 ≤ col := by
  intro i
  induction i with
  | zero => exact Nat.le_refl _
  | succ i ih => exact Nat.le_trans (Nat.div_le_self _ _) ih
theorem ck_caP_b {c col g : Nat} (h0 : 0 < c) (h3 : c ≤ 3) : ∀ i, (ck_caP c col g i).2 ≤ i * 4374 := by
  intro i
  induction i with
  | zero => exact Nat.le_refl _
  | succ i ih =>
    show (ck_caP c col g i).2 + (ck_caP c col g i).1 % c * c ^ ck_im g i ≤ (i + 1) * 4374
    have h1 : (ck_caP c col g i).1 % c ≤ 2 := by
      have := Nat.mod_lt (ck_caP c col g i).1 h0
      omega
    have h2 : c ^ ck_im g i ≤ 2187 := by
      have := ck_im_lt g i
      calc c ^ ck_im g i ≤ 3 ^ ck_im g i := Nat.pow_le_pow_left h3 _
        _ ≤ 3 ^ 7 := Nat.pow_le_pow_right (by decide) (by omega)
        _ = 2187 := by decide
    have h4 : (ck_caP c col g i).1 % c * c ^ ck_im g i ≤ 2 * 2187 := Nat.mul_le_mul h1 h2
    omega
theorem ck_ca_lt {c col g : Nat} (h0 : 0 < c) (h3 : c ≤ 3) : ck_ca c col g < 2 ^ 31 := by
  have h := ck_caP_b (col := col) (g := g) h0 h3 6
  unfold ck_ca
  omega
theorem ck_carried {post : Int32 → Prop} {c col g : Nat} (h0 : 0 < c) (h3 : c ≤ 3) (hc : col < 2 ^ 31) (hg : g < 2 ^ 31) (hp : post (nI (ck_ca c col g))) :
    wpX_carried post (f0, nI c, f2, f3, f4, a1, a2, a3, a4, a5, a6) (nI col) (nI g) :=
  pk_loop (σ := Unit) (fun n i _ => wX_carried_8 post (nI g) f0 (nI c) f2 f3 f4 a1 a2 a3 a4 a5 a6 n (nI (ck_caP c col g i).1) (nI (ck_caP c col g i).2) (nI i)) (fun _ _ => True) 6 0 () (by omega) trivial
    (fun n _ _ => pk_le 6 6 (fun _ => hp) (fun z => absurd z (by omega)))
    (fun n i _ hi _ hw => pk_le 6 i (fun z => absurd z (by omega)) (fun _ => by
      have hr : (ck_caP c col g i).1 < 2 ^ 31 := Nat.lt_of_le_of_lt (ck_caP_le c col g i) hc
      have hm := ck_im_lt g i
      exact ck_image hg (by omega) ⟨nI_ne0 h0 (by omega), ck_power (by omega) (nm_r (e' := nI (ck_caP c col g (i + 1)).2) (by rw [pk_rem hr h0 (by omega), pk_mul, nI_add]; rfl)
        ⟨nI_ne0 h0 (by omega), nm_r (e' := nI (ck_caP c col g (i + 1)).1) (pk_div hr h0 (by omega)) (nm_r (nI_1 i) (hw () trivial))⟩)⟩))
theorem ck_bad0 {post : Int32 → Prop} {c col : Nat} (h3 : c ≤ 3) (hc : col < c ^ 6) (hp : post 0) : wpX_bad post (f0, nI c, f2, f3, f4, a1, a2, a3, a4, a5, a6) (nI col) := by
  have h : c ^ 6 ≤ 3 ^ 6 := Nat.pow_le_pow_left h3 _
  have h' : c ^ 6 < 2 ^ 31 := Nat.lt_of_le_of_lt h (by decide)
  exact br_f (nI_pos (by omega)) (ck_power (m := 6) (by decide) (br_t (nI_lt hc h') hp))
theorem ck_bad1 {post : Int32 → Prop} {c col : Nat} (hc : c ^ 6 ≤ col) (hl : col < 2 ^ 31) (hp : post 1) : wpX_bad post (f0, nI c, f2, f3, f4, a1, a2, a3, a4, a5, a6) (nI col) :=
  br_f (nI_pos hl) (ck_power (m := 6) (by decide) (br_f (nI_nlt hc hl) hp))
theorem ck_badN {post : Int32 → Prop} {u : St2} (hp : post 1) : wpX_bad post u (-1) := by
  obtain ⟨b0, b1, b2, b3, b4, c1, c2, c3, c4, c5, c6⟩ := u
  exact br_t (by decide) hp
end
end
section
/-! the table -/
section
variable {f0 f1 f2 f3 f4 : Int32} {a1 a2 a3 a4 a5 a6 : Nat → Int32}
theorem ck_pk_lt {N sz g : Nat} (hN : N < 2 ^ (18 * sz)) (hg : g < 262144) : N + g * 2 ^ (18 * sz) < 2 ^ (18 * (sz + 1)) := by
  have e : 2 ^ (18 * (sz + 1)) = 262144 * 2 ^ (18 * sz) := by
    rw [show 18 * (sz + 1) = 18 + 18 * sz by omega, Nat.pow_add]
  have h : (g + 1) * 2 ^ (18 * sz) ≤ 262144 * 2 ^ (18 * sz) := Nat.mul_le_mul_right _ (by omega)
  rw [Nat.add_mul, Nat.one_mul] at h
  omega
theorem ck_pk_old {N sz g k : Nat} (hk : k < sz) : ck_at (N + g * 2 ^ (18 * sz)) k = ck_at N k := by
  unfold ck_at
  have e : g * 2 ^ (18 * sz) = 2 ^ (18 * k) * (262144 * (2 ^ (18 * (sz - k - 1)) * g)) := by
    have e1 : 2 ^ (18 * sz) = 2 ^ (18 * k) * (2 ^ 18 * 2 ^ (18 * (sz - k - 1))) := by
      rw [← Nat.pow_add, ← Nat.pow_add]
      congr 1
      omega
    rw [e1, show (2 : Nat) ^ 18 = 262144 by decide, Nat.mul_comm g, Nat.mul_assoc, Nat.mul_assoc]
  rw [e, Nat.add_mul_div_left _ _ (Nat.two_pow_pos _), Nat.add_mul_mod_self_left]
theorem ck_pk_new {N sz g : Nat} (hN : N < 2 ^ (18 * sz)) (hg : g < 262144) : ck_at (N + g * 2 ^ (18 * sz)) sz = g := by
  unfold ck_at
  rw [Nat.mul_comm g, Nat.add_mul_div_left _ _ (Nat.two_pow_pos _), Nat.div_eq_of_lt hN, Nat.zero_add, Nat.mod_eq_of_lt hg]
def ck_hh (g : Nat) : Nat := ((((nI g) ^^^ ((nI g) >>> ((7 : Int32) &&& 31))) * 37) &&& 2047).toNatClampNeg
theorem ck_hh_e (g : Nat) : (((nI g) ^^^ ((nI g) >>> ((7 : Int32) &&& 31))) * 37) &&& 2047 = nI (ck_hh g) ∧ ck_hh g < 2048 := by
  obtain ⟨j, hj, e⟩ := pk_andE (((nI g) ^^^ ((nI g) >>> ((7 : Int32) &&& 31))) * 37) (m := 2047) 11 (by decide)
  have hj' : j < 2048 := hj
  have e2 : ck_hh g = j := by
    unfold ck_hh
    rw [e, nI_clamp (by omega)]
  rw [e2]
  exact ⟨e, hj'⟩
def ck_sl (h d : Nat) : Nat := (h + d) % 2048
theorem ck_sl_lt (h d : Nat) : ck_sl h d < 2048 := Nat.mod_lt _ (by decide)
def ck_cn (a : Nat → Int32) : Nat → Nat
  | 0 => 0
  | j + 1 => ck_cn a j + if a j < 0 then 0 else 1
theorem ck_cn_out {a : Nat → Int32} {j : Nat} {x : Int32} : ∀ n, n ≤ j → ck_cn (upd a j x) n = ck_cn a n := by
  intro n
  induction n with
  | zero => intro _; rfl
  | succ n ih =>
    intro h
    show ck_cn (upd a j x) n + (if upd a j x n < 0 then 0 else 1) = ck_cn a n + if a n < 0 then 0 else 1
    rw [ih (by omega), pk_un (show n ≠ j by omega)]
theorem ck_cn_upd {a : Nat → Int32} {j : Nat} {x : Int32} (ha : a j < 0) (hx : ¬ x < 0) : ∀ n, j < n → ck_cn (upd a j x) n = ck_cn a n + 1 := by
  intro n
  induction n with
  | zero => intro h; exact absurd h (by omega)
  | succ n ih =>
    intro h
    show ck_cn (upd a j x) n + (if upd a j x n < 0 then 0 else 1) = ck_cn a n + (if a n < 0 then 0 else 1) + 1
    by_cases e : n = j
    · rw [e, pk_us, if_neg hx, if_pos ha, ck_cn_out j (Nat.le_refl j)]
    · rw [ih (by omega), pk_un e]
      omega
theorem ck_cn_full {a : Nat → Int32} : ∀ n, (∀ j, j < n → ¬ a j < 0) → ck_cn a n = n := by
  intro n
  induction n with
  | zero => intro _; rfl
  | succ n ih =>
    intro h
    show ck_cn a n + (if a n < 0 then 0 else 1) = n + 1
    rw [ih (fun j hj => h j (by omega)), if_neg (h n (by omega))]
theorem ck_cn_none {a : Nat → Int32} : ∀ n, (∀ j, j < n → a j < 0) → ck_cn a n = 0 := by
  intro n
  induction n with
  | zero => intro _; rfl
  | succ n ih =>
    intro h
    show ck_cn a n + (if a n < 0 then 0 else 1) = 0
    rw [ih (fun j hj => h j (by omega)), if_pos (h n (by omega))]
/-- the group's list, its mask and the table agree -/
def ck_T (sz N M : Nat) (a2 a3 : Nat → Int32) : Prop :=
  sz ≤ 720 ∧ N < 2 ^ (18 * sz) ∧ (∀ k, k < sz → a2 k = nI (ck_at N k)) ∧ (∀ x, M.testBit x = true ↔ ∃ k, k < sz ∧ ck_at N k = x) ∧
  (∀ j, j < 2048 → a3 j < 0 ∨ ∃ k, k < sz ∧ a3 j = nI k) ∧
  (∀ k, k < sz → ∃ d, d < 2048 ∧ a3 (ck_sl (ck_hh (ck_at N k)) d) = nI k ∧ ∀ e, e < d → ¬ a3 (ck_sl (ck_hh (ck_at N k)) e) < 0) ∧
  ck_cn a3 2048 ≤ sz
theorem ck_T_0 {a2 a3 : Nat → Int32} (h : ∀ j, j < 2048 → a3 j < 0) : ck_T 0 0 0 a2 a3 := by
  refine ⟨by omega, by decide, fun k hk => absurd hk (by omega), fun x => ⟨fun z => ?_, fun z => ?_⟩, fun j hj => Or.inl (h j hj), fun k hk => absurd hk (by omega), ?_⟩
  · rw [Nat.zero_testBit] at z
    exact Bool.noConfusion z
  · obtain ⟨k, hk, _⟩ := z
    exact absurd hk (by omega)
  · rw [ck_cn_none 2048 h]
    exact Nat.le_refl 0
theorem ck_T_add {sz N M g d : Nat} {a2 a3 : Nat → Int32} (hT : ck_T sz N M a2 a3) (hg : g < 262144) (hs : sz + 1 ≤ 720) (hd : d < 2048)
    (hneg : a3 (ck_sl (ck_hh g) d) < 0) (hb : ∀ e, e < d → ¬ a3 (ck_sl (ck_hh g) e) < 0) :
    ck_T (sz + 1) (N + g * 2 ^ (18 * sz)) (M ||| 2 ^ g) (upd a2 sz (nI g)) (upd a3 (ck_sl (ck_hh g) d) (nI sz)) := by
  obtain ⟨h1, h2, h3, h4, h5, h6, h7⟩ := hT
  have hpos : ¬ nI sz < 0 := nI_pos (by omega)
  have hup : ∀ j, ¬ a3 j < 0 → ¬ upd a3 (ck_sl (ck_hh g) d) (nI sz) j < 0 := by
    intro j hj
    by_cases e : j = ck_sl (ck_hh g) d
    · rw [e, pk_us]
      exact hpos
    · rw [pk_un e]
      exact hj
  refine ⟨hs, ck_pk_lt h2 hg, fun k hk => ?_, fun x => ?_, fun j hj => ?_, fun k hk => ?_, ?_⟩
  · by_cases e : k = sz
    · rw [e, pk_us, ck_pk_new h2 hg]
    · rw [pk_un e, ck_pk_old (by omega)]
      exact h3 k (by omega)
  · rw [Nat.testBit_or, Nat.testBit_two_pow, Bool.or_eq_true, h4 x, decide_eq_true_iff]
    constructor
    · intro z
      rcases z with ⟨k, hk, e⟩ | e
      · exact ⟨k, by omega, by rw [ck_pk_old hk]; exact e⟩
      · exact ⟨sz, by omega, by rw [ck_pk_new h2 hg]; exact e⟩
    · intro z
      obtain ⟨k, hk, e⟩ := z
      by_cases y : k = sz
      · rw [y, ck_pk_new h2 hg] at e
        exact Or.inr e
      · rw [ck_pk_old (by omega)] at e
        exact Or.inl ⟨k, by omega, e⟩
  · by_cases e : j = ck_sl (ck_hh g) d
    · rw [e, pk_us]
      exact Or.inr ⟨sz, by omega, rfl⟩
    · rw [pk_un e]
      rcases h5 j hj with z | ⟨k, hk, z⟩
      · exact Or.inl z
      · exact Or.inr ⟨k, by omega, z⟩
  · by_cases y : k = sz
    · rw [y, ck_pk_new h2 hg]
      exact ⟨d, hd, pk_us, fun e he => hup _ (hb e he)⟩
    · rw [ck_pk_old (show k < sz by omega)]
      obtain ⟨d', hd', e1, e2⟩ := h6 k (by omega)
      refine ⟨d', hd', ?_, fun e he => hup _ (e2 e he)⟩
      have hne : ck_sl (ck_hh (ck_at N k)) d' ≠ ck_sl (ck_hh g) d := by
        intro z
        rw [← z, e1] at hneg
        exact nI_pos (by omega) hneg
      rw [pk_un hne]
      exact e1
  · rw [ck_cn_upd hneg hpos 2048 (ck_sl_lt _ _)]
    omega
theorem ck_enter {post : St2 → Prop} {sz N M g : Nat} (hg : g < 262144) (hT : ck_T sz N M a2 a3) (hs : (ck_ent g (sz, N, M)).1 ≤ 720)
    (H : ∀ b2 b3, ck_T (ck_ent g (sz, N, M)).1 (ck_ent g (sz, N, M)).2.1 (ck_ent g (sz, N, M)).2.2 b2 b3 → post (f0, f1, f2, nI (ck_ent g (sz, N, M)).1, f4, a1, b2, b3, a4, a5, a6)) :
    wpX_enter post (f0, f1, f2, nI sz, f4, a1, a2, a3, a4, a5, a6) (nI g) := by
  obtain ⟨h1, h2, h3, h4, h5, h6, h7⟩ := id hT
  obtain ⟨he, hh⟩ := ck_hh_e g
  have hfree : ∃ e, a3 (ck_sl (ck_hh g) e) < 0 ∨ a2 (a3 (ck_sl (ck_hh g) e)).toNatClampNeg = nI g := by
    apply Classical.byContradiction
    intro hn
    have hf : ck_cn a3 2048 = 2048 := by
      apply ck_cn_full
      intro j hj z
      apply hn
      refine ⟨(j + 2048 - ck_hh g) % 2048, Or.inl ?_⟩
      have e : ck_sl (ck_hh g) ((j + 2048 - ck_hh g) % 2048) = j := by
        unfold ck_sl
        omega
      rw [e]
      exact z
    omega
  obtain ⟨d, hd, hmin⟩ := pk_least _ hfree
  have hd' : d < 2048 := by
    apply Classical.byContradiction
    intro hn
    have hf : ck_cn a3 2048 = 2048 := by
      apply ck_cn_full
      intro j hj z
      apply hmin ((j + 2048 - ck_hh g) % 2048) (by omega)
      have e : ck_sl (ck_hh g) ((j + 2048 - ck_hh g) % 2048) = j := by
        unfold ck_sl
        omega
      rw [e]
      exact Or.inl z
    omega
  have hnn : ∀ e, e < d → ¬ a3 (ck_sl (ck_hh g) e) < 0 := fun e he z => hmin e he (Or.inl z)
  have start : ck_sl (ck_hh g) 0 = ck_hh g := Nat.mod_eq_of_lt hh
  have exit : ∀ n, wX_enter_16 post (nI g) f0 f1 f2 (nI sz) f4 a1 a2 a3 a4 a5 a6 (n + 1) (nI (ck_sl (ck_hh g) d)) (nI d) := by
    intro n
    have hl := ck_sl_lt (ck_hh g) d
    refine pk_le 2048 d (fun z => absurd z (by omega)) (fun _ => ⟨pk_in _ 2048 hl, ?_⟩)
    rw [nI_clamp (show ck_sl (ck_hh g) d < 2 ^ 31 by omega)]
    cases eb : M.testBit g with
    | true =>
      have ep : ck_ent g (sz, N, M) = (sz, N, M) := if_pos eb
      rw [ep] at H
      obtain ⟨k, hk, ek⟩ := (h4 g).mp eb
      obtain ⟨d2, hd2, e1, e2⟩ := h6 k hk
      rw [ek] at e1 e2
      have hle : ¬ d2 < d := by
        intro z
        apply hmin d2 z
        right
        rw [e1, nI_clamp (by omega), h3 k hk, ek]
      have hnd : ¬ a3 (ck_sl (ck_hh g) d) < 0 := by
        by_cases z : d < d2
        · exact e2 d z
        · rw [show d = d2 by omega, e1]
          exact nI_pos (by omega)
      refine br_f hnd ⟨pk_in _ 2048 hl, ?_, br_t ?_ (H _ _ hT)⟩
      · rcases h5 _ hl with z | ⟨k', hk', z⟩
        · exact absurd z hnd
        · exact pk_in k' 720 (by omega) z
      · rcases hd with z | z
        · exact absurd z hnd
        · exact z
    | false =>
      have ep : ck_ent g (sz, N, M) = (sz + 1, N + g * 2 ^ (18 * sz), M ||| 2 ^ g) := if_neg (fun z => by rw [show (sz, N, M).2.2 = M from rfl, eb] at z; exact Bool.noConfusion z)
      rw [ep] at H hs
      have hs' : sz + 1 ≤ 720 := hs
      have hneg : a3 (ck_sl (ck_hh g) d) < 0 := by
        rcases hd with z | z
        · exact z
        · rcases h5 _ hl with y | ⟨k, hk, y⟩
          · exact y
          · rw [y, nI_clamp (by omega), h3 k hk] at z
            have z' := (nI_eq (by have := ck_at_lt N k; omega) (by omega)).mp z
            have : M.testBit g = true := (h4 g).mpr ⟨k, hk, z'⟩
            rw [eb] at this
            exact Bool.noConfusion this
      refine br_t hneg ?_
      unfold wX_enter_62
      rw [nI_clamp (show ck_sl (ck_hh g) d < 2 ^ 31 by omega), nI_clamp (show sz < 2 ^ 31 by omega)]
      exact ⟨pk_in _ 2048 hl, nm_e ⟨pk_in sz 720 (by omega), nm_e (nm_r (nI_1 sz) (H _ _ (ck_T_add hT hg hs' hd' hneg hnn)))⟩⟩
  have loop : ∃ n, wX_enter_16 post (nI g) f0 f1 f2 (nI sz) f4 a1 a2 a3 a4 a5 a6 n (nI (ck_sl (ck_hh g) 0)) (nI 0) := by
    refine pk_loop (σ := Unit) (fun n i _ => wX_enter_16 post (nI g) f0 f1 f2 (nI sz) f4 a1 a2 a3 a4 a5 a6 n (nI (ck_sl (ck_hh g) i)) (nI i)) (fun _ _ => True) d 0 () (by omega) trivial (fun n _ _ => exit n) ?_
    intro n i _ hi _ hw
    have hl := ck_sl_lt (ck_hh g) i
    show wX_enter_16 post (nI g) f0 f1 f2 (nI sz) f4 a1 a2 a3 a4 a5 a6 (n + 1) (nI (ck_sl (ck_hh g) i)) (nI i)
    refine pk_le 2048 i (fun z => absurd z (by omega)) (fun _ => ⟨pk_in _ 2048 hl, ?_⟩)
    rw [nI_clamp (show ck_sl (ck_hh g) i < 2 ^ 31 by omega)]
    refine br_f (hnn i hi) ⟨pk_in _ 2048 hl, ?_, br_f (fun z => hmin i hi (Or.inr z)) (nm_r (e' := nI (ck_sl (ck_hh g) (i + 1))) ?_ (nm_r (nI_1 i) (hw () trivial)))⟩
    · rcases h5 _ hl with z | ⟨k', hk', z⟩
      · exact absurd z (hnn i hi)
      · exact pk_in k' 720 (by omega) z
    · rw [nI_1, pk_andN (by omega) 11 (by decide)]
      congr 1
      unfold ck_sl
      omega
  rw [start] at loop
  exact nm_r he loop
end
end
section
/-! countShape, listGroup -/
section
variable {f0 f1 f2 f3 f4 : Int32} {a1 a2 a3 a4 a5 a6 : Nat → Int32}
def ck_LM (L : List (Nat × Nat)) (a4 a5 : Nat → Int32) : Prop :=
  L.length ≤ 12 ∧ ∀ (i : Nat) (q : Nat × Nat), L[i]? = some q → a4 i = nI q.1 ∧ a5 i = nI q.2 ∧ q.1 < 2 ^ 31
theorem ck_LM_0 {a4 a5 : Nat → Int32} : ck_LM [] a4 a5 :=
  ⟨by decide, fun i q h => by simp at h⟩
theorem ck_at_mid (pre : List (Nat × Nat)) (q : Nat × Nat) (r : List (Nat × Nat)) : (pre ++ q :: r)[pre.length]? = some q := by simp
theorem ck_at_ne (pre : List (Nat × Nat)) (q q' : Nat × Nat) (r : List (Nat × Nat)) (i : Nat) (h : i ≠ pre.length) : (pre ++ q :: r)[i]? = (pre ++ q' :: r)[i]? := by
  by_cases z : i < pre.length
  · rw [List.getElem?_append_left z, List.getElem?_append_left z]
  · rw [List.getElem?_append_right (by omega), List.getElem?_append_right (by omega)]
    obtain ⟨m, hm⟩ : ∃ m, i - pre.length = m + 1 := ⟨i - pre.length - 1, by omega⟩
    rw [hm, List.getElem?_cons_succ, List.getElem?_cons_succ]
theorem ck_cs_pre (s : Nat) (suf : List (Nat × Nat)) : ∀ pre : List (Nat × Nat), (∀ q, q ∈ pre → q.1 ≠ s) → ck_cs s (pre ++ suf) = pre ++ ck_cs s suf := by
  intro pre
  induction pre with
  | nil => intro _; rfl
  | cons q pre ih =>
    intro h
    show (if q.1 = s then (q.1, q.2 + 1) :: (pre ++ suf) else q :: ck_cs s (pre ++ suf)) = q :: (pre ++ ck_cs s suf)
    rw [if_neg (h q (List.mem_cons_self ..)), ih (fun p hp => h p (List.mem_cons_of_mem _ hp))]
theorem ck_cs_len (s : Nat) : ∀ L : List (Nat × Nat), L.length ≤ (ck_cs s L).length := by
  intro L
  induction L with
  | nil => exact Nat.zero_le _
  | cons q L ih =>
    show L.length + 1 ≤ (if q.1 = s then (q.1, q.2 + 1) :: L else q :: ck_cs s L).length
    by_cases z : q.1 = s
    · rw [if_pos z]
      exact Nat.le_refl _
    · rw [if_neg z]
      exact Nat.succ_le_succ ih
theorem ck_count {post : St2 → Prop} {s : Nat} {L : List (Nat × Nat)} (hs : s < 2 ^ 31) (hL : ck_LM L a4 a5) (hl : (ck_cs s L).length ≤ 12)
    (H : ∀ b4 b5, ck_LM (ck_cs s L) b4 b5 → post (f0, f1, f2, f3, nI (ck_cs s L).length, a1, a2, a3, b4, b5, a6)) :
    wpX_countShape post (f0, f1, f2, f3, nI L.length, a1, a2, a3, a4, a5, a6) (nI s) := by
  have main : ∀ suf pre : List (Nat × Nat), L = pre ++ suf → (∀ q, q ∈ pre → q.1 ≠ s) →
      ∃ n, wX_countShape_2 post (nI s) f0 f1 f2 f3 (nI L.length) a1 a2 a3 a4 a5 a6 n (nI pre.length) := by
    intro suf
    induction suf with
    | nil =>
      intro pre e hp
      have ec : ck_cs s L = L ++ [(s, 1)] := by
        rw [e, ck_cs_pre s [] pre hp, List.append_nil]
        rfl
      have el : L.length = pre.length := by rw [e, List.append_nil]
      rw [ec, List.length_append] at hl
      rw [ec, List.length_append] at H
      have hl' : L.length + 1 ≤ 12 := hl
      refine ⟨1, pk_le L.length pre.length (fun _ => ⟨pk_in L.length 12 (by omega), ?_⟩) (fun z => absurd z (by omega))⟩
      rw [nI_clamp (show L.length < 2 ^ 31 by omega)]
      refine nm_e ⟨pk_in L.length 12 (by omega), nm_e (nm_r (nI_1 _) (H _ _ ⟨by rw [List.length_append]; exact hl', fun i q hq => ?_⟩))⟩
      by_cases z : i < L.length
      · rw [List.getElem?_append_left z] at hq
        rw [pk_un (show i ≠ L.length by omega), pk_un (show i ≠ L.length by omega)]
        exact hL.2 i q hq
      · by_cases y : i = L.length
        · rw [y] at hq
          have hq' := (ck_at_mid L (s, 1) []).symm.trans hq
          have hq2 : (s, 1) = q := Option.some.inj hq'
          rw [y, pk_us, pk_us, ← hq2]
          exact ⟨rfl, rfl, hs⟩
        · rw [List.getElem?_eq_none (by rw [List.length_append]; show L.length + 1 ≤ i; omega)] at hq
          exact absurd hq.symm (Option.some_ne_none q)
    | cons q r ih =>
      intro pre e hp
      have hlen : pre.length < L.length := by
        rw [e, List.length_append, List.length_cons]
        omega
      have h12 := hL.1
      have hq := hL.2 pre.length q (by rw [e]; exact ck_at_mid pre q r)
      by_cases z : q.1 = s
      · have ec : ck_cs s L = pre ++ (q.1, q.2 + 1) :: r := by
          rw [e, ck_cs_pre s (q :: r) pre hp]
          show pre ++ (if q.1 = s then (q.1, q.2 + 1) :: r else q :: ck_cs s r) = _
          rw [if_pos z]
        have el : (ck_cs s L).length = L.length := by
          rw [ec, e, List.length_append, List.length_append]
          rfl
        rw [el] at H
        refine ⟨1, pk_le L.length pre.length (fun z => absurd z (by omega)) (fun _ => ⟨pk_in pre.length 12 (by omega), ?_⟩)⟩
        rw [nI_clamp (show pre.length < 2 ^ 31 by omega)]
        refine br_t (by rw [hq.1, z]) ⟨pk_in pre.length 12 (by omega), pk_in pre.length 12 (by omega), nm_e (H _ _ ⟨by rw [el]; exact h12, fun i p hp' => ?_⟩)⟩
        rw [ec] at hp'
        by_cases y : i = pre.length
        · rw [y, ck_at_mid] at hp'
          have hp2 : (q.1, q.2 + 1) = p := Option.some.inj hp'
          rw [y, pk_us, hq.1, hq.2.1, ← hp2]
          exact ⟨rfl, nI_1 _, hq.2.2⟩
        · rw [ck_at_ne pre (q.1, q.2 + 1) q r i y, ← e] at hp'
          rw [pk_un y]
          exact hL.2 i p hp'
      · obtain ⟨n, hn⟩ := ih (pre ++ [q]) (by rw [e, List.append_assoc]; rfl) (fun p hp' => by
          rcases List.mem_append.mp hp' with y | y
          · exact hp p y
          · rw [List.mem_singleton.mp y]
            exact z)
        rw [List.length_append] at hn
        have hn' : wX_countShape_2 post (nI s) f0 f1 f2 f3 (nI L.length) a1 a2 a3 a4 a5 a6 n (nI (pre.length + 1)) := hn
        refine ⟨n + 1, pk_le L.length pre.length (fun z => absurd z (by omega)) (fun _ => ⟨pk_in pre.length 12 (by omega), ?_⟩)⟩
        rw [nI_clamp (show pre.length < 2 ^ 31 by omega)]
        refine br_f (fun y => z ?_) (nm_r (nI_1 _) hn')
        rw [hq.1] at y
        exact (nI_eq hq.2.2 hs).mp y
  exact main L [] rfl (fun q h => absurd h (List.not_mem_nil))
/-- shapes are small -/
theorem ck_shI_len (g : Nat) : ∀ (f : Nat) (p : Nat × Nat × Nat), (ck_shI g f p).2.1 ≤ p.2.1 + f := by
  intro f
  induction f with
  | zero => exact fun p => Nat.le_refl _
  | succ f ih =>
    intro p
    show (if p.1 / 2 ^ p.2.2 % 2 = 0 then ck_shI g f (p.1 ||| 2 ^ p.2.2, p.2.1 + 1, ck_im g p.2.2) else p).2.1 ≤ p.2.1 + (f + 1)
    by_cases z : p.1 / 2 ^ p.2.2 % 2 = 0
    · rw [if_pos z]
      have h := ih (p.1 ||| 2 ^ p.2.2, p.2.1 + 1, ck_im g p.2.2)
      have h' : (ck_shI g f (p.1 ||| 2 ^ p.2.2, p.2.1 + 1, ck_im g p.2.2)).2.1 ≤ p.2.1 + 1 + f := h
      omega
    · rw [if_neg z]
      omega
theorem ck_shP_b (g : Nat) : ∀ i, (ck_shP g i).2 ≤ i * 1048576 := by
  intro i
  induction i with
  | zero => exact Nat.le_refl _
  | succ i ih =>
    have hl : (ck_shI g 6 ((ck_shP g i).1, 0, i)).2.1 ≤ 0 + 6 := ck_shI_len g 6 _
    show (if (ck_shI g 6 ((ck_shP g i).1, 0, i)).2.1 = 0 then (ck_shP g i).2 else (ck_shP g i).2 + 2 ^ (4 * (ck_shI g 6 ((ck_shP g i).1, 0, i)).2.1 - 4)) ≤ (i + 1) * 1048576
    have h2 : 2 ^ (4 * (ck_shI g 6 ((ck_shP g i).1, 0, i)).2.1 - 4) ≤ 2 ^ 20 := Nat.pow_le_pow_right (by decide) (by omega)
    by_cases z : (ck_shI g 6 ((ck_shP g i).1, 0, i)).2.1 = 0
    · rw [if_pos z]
      exact Nat.le_trans ih (Nat.mul_le_mul_right _ (Nat.le_succ i))
    · rw [if_neg z, Nat.add_mul, Nat.one_mul]
      exact Nat.add_le_add ih h2
theorem ck_sh_lt (g : Nat) : ck_sh g < 2 ^ 31 := by
  have h := ck_shP_b g 6
  unfold ck_sh
  omega
theorem ck_shs_mono (N : Nat) : ∀ j k, (ck_shs N k).length ≤ (ck_shs N (k + j)).length := by
  intro j
  induction j with
  | zero => exact fun k => Nat.le_refl _
  | succ j ih => exact fun k => Nat.le_trans (ih k) (ck_cs_len _ _)
theorem ck_g109 {post : St2 → Prop} {sz N : Nat} (h720 : sz ≤ 720) (h3 : ∀ k, k < sz → a2 k = nI (ck_at N k)) (hl : (ck_shs N sz).length ≤ 12)
    (H : ∀ b4 b5, ck_LM (ck_shs N sz) b4 b5 → post (f0, f1, 1, nI sz, nI (ck_shs N sz).length, a1, a2, a3, b4, b5, a6)) :
    ∃ n, wX_listGroup_109 post n 0 f0 f1 f2 (nI sz) 0 a1 a2 a3 a4 a5 a6 :=
  pk_loop (σ := (Nat → Int32) × (Nat → Int32)) (fun n i s => wX_listGroup_109 post n (nI i) f0 f1 f2 (nI sz) (nI (ck_shs N i).length) a1 a2 a3 s.1 s.2 a6) (fun i s => ck_LM (ck_shs N i) s.1 s.2) sz 0 (a4, a5) (by omega) ck_LM_0
    (fun n s h => pk_le sz sz (fun _ => H s.1 s.2 h) (fun z => absurd z (by omega)))
    (fun n i s hi h hw => pk_le sz i (fun z => absurd z (by omega)) (fun _ => by
      refine ⟨pk_in i 720 (by omega), ?_⟩
      rw [nI_clamp (show i < 2 ^ 31 by omega), h3 i hi]
      have hm := ck_shs_mono N (sz - (i + 1)) (i + 1)
      rw [show i + 1 + (sz - (i + 1)) = sz by omega] at hm
      exact ck_shape (by have := ck_at_lt N i; omega) (ck_count (ck_sh_lt _) h (Nat.le_trans hm hl) (fun b4 b5 hb => nm_r (nI_1 i) (hw (b4, b5) hb)))))
/-- the generators -/
def ck_G (gens : List Nat) (a1 : Nat → Int32) : Prop := gens.length ≤ 3 ∧ ∀ (i g : Nat), gens[i]? = some g → a1 i = nI g ∧ g < 2 ^ 31
theorem ck_ent_mono (g : Nat) (p : Nat × Nat × Nat) : p.1 ≤ (ck_ent g p).1 := by
  unfold ck_ent
  by_cases z : p.2.2.testBit g = true
  · rw [if_pos z]
    exact Nat.le_refl _
  · rw [if_neg z]
    exact Nat.le_succ _
theorem ck_gs_mono (g : Nat) : ∀ (t : List Nat) (p : Nat × Nat × Nat), p.1 ≤ (ck_gs t g p).1 := by
  intro t
  induction t with
  | nil => exact fun p => Nat.le_refl _
  | cons h t ih => exact fun p => Nat.le_trans (ck_ent_mono (ck_bo g h) p) (ih _)
theorem ck_bf_mono (gens : List Nat) : ∀ (f got : Nat) (p : Nat × Nat × Nat), p.1 ≤ (ck_bf gens f got p).1 := by
  intro f
  induction f with
  | zero => exact fun got p => Nat.le_refl _
  | succ f ih =>
    intro got p
    show p.1 ≤ (if p.1 ≤ got then p else ck_bf gens f (got + 1) (ck_gs gens (ck_at p.2.1 got) p)).1
    by_cases z : p.1 ≤ got
    · rw [if_pos z]
      exact Nat.le_refl _
    · rw [if_neg z]
      exact Nat.le_trans (ck_gs_mono _ _ p) (ih _ _)
theorem ck_ent_at {g k : Nat} {p : Nat × Nat × Nat} (h : k < p.1) : ck_at (ck_ent g p).2.1 k = ck_at p.2.1 k := by
  unfold ck_ent
  by_cases z : p.2.2.testBit g = true
  · rw [if_pos z]
  · rw [if_neg z]
    exact ck_pk_old h
theorem ck_g60 {post : St2 → Prop} {J : Int32 → Int32 → Int32 → Int32 → Int32 → Int32 → (Nat → Int32) → (Nat → Int32) → (Nat → Int32) → (Nat → Int32) → (Nat → Int32) → (Nat → Int32) → Prop}
    {gens : List Nat} {got g : Nat} (hG : ck_G gens a1) (hgot : got < 720) : ∀ (t pre : List Nat) (p : Nat × Nat × Nat) (a2 a3 : Nat → Int32), gens = pre ++ t → ck_T p.1 p.2.1 p.2.2 a2 a3 → got < p.1 → ck_at p.2.1 got = g →
    (ck_gs t g p).1 ≤ 720 →
    (∀ b2 b3, ck_T (ck_gs t g p).1 (ck_gs t g p).2.1 (ck_gs t g p).2.2 b2 b3 → J (nI (got + 1)) (nI gens.length) f1 f2 (nI (ck_gs t g p).1) f4 a1 b2 b3 a4 a5 a6) →
    wX_listGroup_60 post J (nI got) (t.length + 1) (nI pre.length) (nI gens.length) f1 f2 (nI p.1) f4 a1 a2 a3 a4 a5 a6 := by
  intro t
  induction t with
  | nil =>
    intro pre p a2 a3 e hT hl hg hb H
    have hlen : gens.length = pre.length := by rw [e, List.append_nil]
    have h3 := hG.1
    exact pk_le gens.length pre.length (fun _ => nm_r (nI_1 got) (H a2 a3 hT)) (fun z => absurd z (by omega))
  | cons h t ih =>
    intro pre p a2 a3 e hT hl hg hb H
    have h3 := hG.1
    have hlen : pre.length < gens.length := by
      rw [e, List.length_append, List.length_cons]
      omega
    have hh := hG.2 pre.length h (by rw [e]; simp)
    refine pk_le gens.length pre.length (fun z => absurd z (by omega)) (fun _ => ⟨pk_in got 720 hgot, pk_in pre.length 3 (by omega), ?_⟩)
    rw [nI_clamp (show got < 2 ^ 31 by omega), nI_clamp (show pre.length < 2 ^ 31 by omega), hT.2.2.1 got hl, hg, hh.1]
    have hg' : g < 262144 := by rw [← hg]; exact ck_at_lt _ _
    refine ck_both (by omega) hh.2 (ck_enter (sz := p.1) (N := p.2.1) (M := p.2.2) (ck_bo_lt g h) hT (Nat.le_trans (ck_gs_mono g t _) hb) (fun b2 b3 hT' => nm_r (nI_1 pre.length) ?_))
    have hi := ih (pre ++ [h]) (ck_ent (ck_bo g h) p) b2 b3 (by rw [e, List.append_assoc]; rfl) hT' (Nat.lt_of_lt_of_le hl (ck_ent_mono _ p)) (by rw [ck_ent_at hl]; exact hg) hb H
    rw [List.length_append] at hi
    exact hi
theorem ck_g43 {post : St2 → Prop} {gens : List Nat} (hG : ck_G gens a1) : ∀ (f got : Nat) (p : Nat × Nat × Nat) (a2 a3 : Nat → Int32), got + f = 720 → ck_T p.1 p.2.1 p.2.2 a2 a3 →
    (ck_bf gens f got p).1 ≤ 720 →
    (∀ b2 b3, ck_T (ck_bf gens f got p).1 (ck_bf gens f got p).2.1 (ck_bf gens f got p).2.2 b2 b3 → ∃ n, wX_listGroup_109 post n 0 (nI gens.length) f1 f2 (nI (ck_bf gens f got p).1) 0 a1 b2 b3 a4 a5 a6) →
    wX_listGroup_43 post (f + 1) (nI got) (nI gens.length) f1 f2 (nI p.1) f4 a1 a2 a3 a4 a5 a6 := by
  intro f
  induction f with
  | zero =>
    intro got p a2 a3 hf hT hb H
    have h720 := hT.1
    exact pk_le p.1 got (fun _ => H a2 a3 hT) (fun z => absurd z (by omega))
  | succ f ih =>
    intro got p a2 a3 hf hT hb H
    have h720 := hT.1
    have e : ck_bf gens (f + 1) got p = if p.1 ≤ got then p else ck_bf gens f (got + 1) (ck_gs gens (ck_at p.2.1 got) p) := rfl
    by_cases z : p.1 ≤ got
    · rw [e, if_pos z] at H
      exact pk_le p.1 got (fun _ => H a2 a3 hT) (fun y => absurd y (by omega))
    · rw [e, if_neg z] at H hb
      refine pk_le p.1 got (fun y => absurd y z) (fun _ => pk_le 720 got (fun y => absurd y (by omega)) (fun _ => ⟨gens.length + 1, ?_⟩))
      exact ck_g60 hG (by omega) gens [] p a2 a3 rfl hT (by omega) rfl (Nat.le_trans (ck_bf_mono gens f (got + 1) _) hb) (fun b2 b3 hT' => ih (got + 1) _ b2 b3 (by omega) hT' hb H)
/-- the picture of a listed group -/
def ck_Dt (gens : List Nat) (sz N : Nat) (L : List (Nat × Nat)) : Prop := (ck_run gens).1 = sz ∧ sz ≤ 720 ∧ (ck_run gens).2.1 = N ∧ ck_shs N sz = L ∧ L.length ≤ 12
def ck_LD (sz N : Nat) (L : List (Nat × Nat)) (f3 f4 : Int32) (a2 a4 a5 : Nat → Int32) : Prop :=
  f3 = nI sz ∧ f4 = nI L.length ∧ (∀ k, k < sz → a2 k = nI (ck_at N k)) ∧ ck_LM L a4 a5
def ck_St (gens : List Nat) (c sz N : Nat) (L : List (Nat × Nat)) (f0 f1 f2 f3 f4 : Int32) (a1 a2 a4 a5 : Nat → Int32) : Prop :=
  f0 = nI gens.length ∧ f1 = nI c ∧ ck_G gens a1 ∧ (f2 = 0 ∨ ck_LD sz N L f3 f4 a2 a4 a5)
theorem ck_list {post : St2 → Prop} {gens : List Nat} {c sz N : Nat} {L : List (Nat × Nat)} (hD : ck_Dt gens sz N L) (hS : ck_St gens c sz N L f0 f1 f2 f3 f4 a1 a2 a4 a5)
    (H : ∀ g2 b2 b3 b4 b5, ck_G gens a1 → (∀ k, k < sz → b2 k = nI (ck_at N k)) → ck_LM L b4 b5 → post (nI gens.length, nI c, g2, nI sz, nI L.length, a1, b2, b3, b4, b5, a6)) :
    wpX_listGroup post (f0, f1, f2, f3, f4, a1, a2, a3, a4, a5, a6) := by
  obtain ⟨e0, e1, hG, hS⟩ := hS
  subst e0 e1
  by_cases z : f2 = 0
  · refine br_t z ?_
    obtain ⟨d1, d2, d3, d4, d5⟩ := hD
    refine pk_loop (fun n i s => wX_listGroup_10 post (nI gens.length) (nI c) f2 f3 f4 n (nI i) a1 a2 s a4 a5 a6) (fun i s => ∀ j, j < i → s j < 0) 2048 0 a3 (by omega) (fun j hj => absurd hj (by omega)) ?_ ?_
    · intro n s h
      refine pk_le 2048 2048 (fun _ => ?_) (fun y => absurd y (by omega))
      refine ck_enter (sz := 0) (N := 0) (M := 0) (g := 181896) (by decide) (ck_T_0 h) ?_ ?_
      · rw [ck_ent0]
        exact (by decide : 1 ≤ 720)
      · intro b2 b3 hT
        refine ⟨721, ck_g43 hG 720 0 ck_p0 b2 b3 rfl hT (by show (ck_run gens).1 ≤ 720; rw [d1]; exact d2) (fun c2 c3 hT' => ?_)⟩
        have hT2 : ck_T (ck_run gens).1 (ck_run gens).2.1 (ck_run gens).2.2 c2 c3 := hT'
        show ∃ n, wX_listGroup_109 post n 0 (nI gens.length) (nI c) f2 (nI (ck_run gens).1) 0 a1 c2 c3 a4 a5 a6
        rw [d1, d3] at hT2
        rw [d1]
        refine ck_g109 (N := N) d2 hT2.2.2.1 (by rw [d4]; exact d5) (fun b4 b5 hb => ?_)
        rw [d4]
        rw [d4] at hb
        exact H _ _ _ _ _ hG hT2.2.2.1 hb
    · intro n i s hi h hw
      refine pk_le 2048 i (fun y => absurd y (by omega)) (fun _ => ⟨pk_in i 2048 hi, ?_⟩)
      rw [nI_clamp (show i < 2 ^ 31 by omega)]
      refine nm_e (nm_r (nI_1 i) (hw _ (fun j hj => ?_)))
      by_cases y : j = i
      · rw [y, pk_us]
        decide
      · rw [pk_un y]
        exact h j (by omega)
  · refine br_f z ?_
    rcases hS with y | ⟨e3, e4, h2, hL⟩
    · exact absurd y z
    · subst e3 e4
      exact H _ _ _ _ _ hG h2 hL
end
end
section
/-! averages over the group -/
section
variable {f0 f1 f2 f3 f4 : Int32} {a1 a2 a3 a4 a5 a6 : Nat → Int32}
theorem ck_LM_at {L : List (Nat × Nat)} (hL : ck_LM L a4 a5) {i : Nat} (h : i < L.length) : a4 i = nI (L[i]'h).1 ∧ a5 i = nI (L[i]'h).2 ∧ (L[i]'h).1 < 2 ^ 31 :=
  hL.2 i (L[i]'h) (List.getElem?_eq_getElem h)
theorem ck_sm_step {L : List (Nat × Nat)} (F : Nat → Nat) {i : Nat} (h : i < L.length) {x y : Int32} (hx : x = nI (L[i]'h).2) (hy : y = nI (F (L[i]'h).1)) : nI (ck_sm F (L.take i)) + x * y = nI (ck_sm F (L.take (i + 1))) := by
  rw [hx, hy, pk_mul, nI_add, ck_sm_take F L i h]
theorem ck_kindsOf {post : Int32 → Prop} {cc sz : Nat} {L : List (Nat × Nat)} (hL : ck_LM L a4 a5) (h0 : 0 < sz) (hsz : sz ≤ 720) (hb : ck_sm (fun t => cc ^ ck_ac t) L < 2 ^ 31)
    (hp : post (nI (ck_sm (fun t => cc ^ ck_ac t) L / sz))) : wpX_kindsOf post (f0, f1, f2, nI sz, nI L.length, a1, a2, a3, a4, a5, a6) (nI cc) := by
  have h12 := hL.1
  refine pk_loop (σ := Unit) (fun n i _ => wX_kindsOf_4 post (nI cc) f0 f1 f2 (nI sz) (nI L.length) a1 a2 a3 a4 a5 a6 n (nI (ck_sm (fun t => cc ^ ck_ac t) (L.take i))) (nI i)) (fun _ _ => True) L.length 0 () (by omega) trivial ?_ ?_
  · intro n _ _
    refine pk_le L.length L.length (fun _ => pk_le sz 0 (fun z => absurd z (by omega)) (fun _ => ⟨nI_ne0 h0 (by omega), ?_⟩)) (fun z => absurd z (by omega))
    rw [ck_sm_all, pk_div hb h0 (by omega)]
    exact hp
  · intro n i _ hi _ hw
    obtain ⟨q1, q2, q3⟩ := ck_LM_at hL hi
    refine pk_le L.length i (fun z => absurd z (by omega)) (fun _ => ⟨pk_in i 12 (by omega), ?_⟩)
    rw [nI_clamp (show i < 2 ^ 31 by omega), q1]
    have hac := ck_ac_lt (L[i]'hi).1
    exact ck_allC q3 (ck_power (by omega) ⟨pk_in i 12 (by omega), nm_r (ck_sm_step (fun t => cc ^ ck_ac t) hi q2 rfl) (nm_r (nI_1 i) (hw () trivial))⟩)
theorem ck_orbitC {post : Int32 → Prop} {sz : Nat} {L : List (Nat × Nat)} (hL : ck_LM L a4 a5) (h0 : 0 < sz) (hsz : sz ≤ 720) (hb : ck_sm (fun t => ck_cy t 1) L < 2 ^ 31)
    (hp : post (nI (ck_sm (fun t => ck_cy t 1) L / sz))) : wpX_orbitCount post (f0, f1, f2, nI sz, nI L.length, a1, a2, a3, a4, a5, a6) := by
  have h12 := hL.1
  refine pk_loop (σ := Unit) (fun n i _ => wX_orbitCount_4 post f0 f1 f2 (nI sz) (nI L.length) a1 a2 a3 a4 a5 a6 n (nI (ck_sm (fun t => ck_cy t 1) (L.take i))) (nI i)) (fun _ _ => True) L.length 0 () (by omega) trivial ?_ ?_
  · intro n _ _
    refine pk_le L.length L.length (fun _ => pk_le sz 0 (fun z => absurd z (by omega)) (fun _ => ⟨nI_ne0 h0 (by omega), ?_⟩)) (fun z => absurd z (by omega))
    rw [ck_sm_all, pk_div hb h0 (by omega)]
    exact hp
  · intro n i _ hi _ hw
    obtain ⟨q1, q2, q3⟩ := ck_LM_at hL hi
    refine pk_le L.length i (fun z => absurd z (by omega)) (fun _ => ⟨pk_in i 12 (by omega), ?_⟩)
    rw [nI_clamp (show i < 2 ^ 31 by omega), q1]
    exact ck_cyc (l := 1) q3 (by decide) (by decide) ⟨pk_in i 12 (by omega), nm_r (ck_sm_step (fun t => ck_cy t 1) hi q2 rfl) (nm_r (nI_1 i) (hw () trivial))⟩
theorem ck_prE : ∀ r, r < 16 → (nI r * (nI r - 1)) / 2 = nI (r * (r - 1) / 2) := by decide +kernel
theorem ck_pairL {post : Int32 → St2 → Prop} {sz : Nat} {L : List (Nat × Nat)} (hL : ck_LM L a4 a5) (h0 : 0 < sz) (hsz : sz ≤ 720) (hb : ck_sm ck_pr L < 2 ^ 31)
    (hp : post (nI (ck_sm ck_pr L / sz)) (f0, f1, f2, nI sz, nI L.length, a1, a2, a3, a4, a5, a6)) : ∃ n, wX_pairKinds_8 post f0 f1 f2 (nI sz) (nI L.length) a1 a2 a3 a4 a5 a6 n 0 0 := by
  have h12 := hL.1
  refine pk_loop (σ := Unit) (fun n i _ => wX_pairKinds_8 post f0 f1 f2 (nI sz) (nI L.length) a1 a2 a3 a4 a5 a6 n (nI (ck_sm ck_pr (L.take i))) (nI i)) (fun _ _ => True) L.length 0 () (by omega) trivial ?_ ?_
  · intro n _ _
    refine pk_le L.length L.length (fun _ => pk_le sz 0 (fun z => absurd z (by omega)) (fun _ => ⟨nI_ne0 h0 (by omega), ?_⟩)) (fun z => absurd z (by omega))
    rw [ck_sm_all, pk_div hb h0 (by omega)]
    exact hp
  · intro n i _ hi _ hw
    obtain ⟨q1, q2, q3⟩ := ck_LM_at hL hi
    refine pk_le L.length i (fun z => absurd z (by omega)) (fun _ => ⟨pk_in i 12 (by omega), ?_⟩)
    rw [nI_clamp (show i < 2 ^ 31 by omega), q1]
    exact ck_cyc (l := 1) q3 (by decide) (by decide) ⟨pk_in i 12 (by omega), ck_cyc (l := 2) q3 (by decide) (by decide) ⟨pk_in i 12 (by omega), by decide,
      nm_r (ck_sm_step ck_pr hi q2 (by rw [ck_prE _ (ck_cy_lt _ _), nI_add]; rfl)) (nm_r (nI_1 i) (hw () trivial))⟩⟩
theorem ck_withL {post : Int32 → St2 → Prop} {sz k : Nat} {L : List (Nat × Nat)} (hL : ck_LM L a4 a5) (hk : k < 2 ^ 31)
    (hp : post (nI (ck_sm (ck_wc k) L)) (f0, f1, f2, nI sz, nI L.length, a1, a2, a3, a4, a5, a6)) : ∃ n, wX_withCycles_8 post (nI k) f0 f1 f2 (nI sz) (nI L.length) a1 a2 a3 a4 a5 a6 n 0 0 := by
  have h12 := hL.1
  refine pk_loop (σ := Unit) (fun n i _ => wX_withCycles_8 post (nI k) f0 f1 f2 (nI sz) (nI L.length) a1 a2 a3 a4 a5 a6 n (nI (ck_sm (ck_wc k) (L.take i))) (nI i)) (fun _ _ => True) L.length 0 () (by omega) trivial ?_ ?_
  · intro n _ _
    refine pk_le L.length L.length (fun _ => ?_) (fun z => absurd z (by omega))
    rw [ck_sm_all]
    exact hp
  · intro n i _ hi _ hw
    obtain ⟨q1, q2, q3⟩ := ck_LM_at hL hi
    have t : wX_withCycles_8 post (nI k) f0 f1 f2 (nI sz) (nI L.length) a1 a2 a3 a4 a5 a6 n (nI (ck_sm (ck_wc k) (L.take (i + 1)))) (nI (i + 1)) := hw () trivial
    rw [ck_sm_take _ L i hi] at t
    have hac := ck_ac_lt (L[i]'hi).1
    refine pk_le L.length i (fun z => absurd z (by omega)) (fun _ => ⟨pk_in i 12 (by omega), ?_⟩)
    rw [nI_clamp (show i < 2 ^ 31 by omega), q1, q2]
    unfold ck_wc at t
    refine ck_allC q3 (pk_eq (ck_ac (L[i]'hi).1) k (fun z => ?_) (fun z => ?_))
    · rw [if_pos z, Nat.mul_one] at t
      exact ⟨pk_in i 12 (by omega), nm_r (nI_add _ _) (nm_r (nI_1 i) t)⟩
    · rw [if_neg z, Nat.mul_zero, Nat.add_zero] at t
      exact nm_r (nI_1 i) t
theorem ck_se50 {post : Int32 → St2 → Prop} {J18 J31 : Int32 → Int32 → Prop} {x1 z : Int32} {c t i j : Nat} {w : Nat} (hi : i < 12) (hj : j < 6) (e4 : a4 i = nI t) (ht : t < 2 ^ 31)
    (hz : (z + nI c) - 2 = nI (ck_sc c (j + 1))) (hJ : J31 (nI (w * ck_sc c (j + 1) ^ ck_cy t (j + 1))) (nI (j + 1 + 1))) :
    wX_selfExchanged_50 post J18 J31 x1 (nI i) (nI w) (nI (j + 1)) z f0 (nI c) f2 f3 f4 a1 a2 a3 a4 a5 a6 := by
  unfold wX_selfExchanged_50
  rw [nI_clamp (show i < 2 ^ 31 by omega), e4]
  have hcy := ck_cy_lt t (j + 1)
  exact nm_r hz ⟨pk_in i 12 hi, ck_cyc ht (by omega) (by omega) (ck_power (by omega) (nm_r (pk_mul _ _) (nm_r (nI_1 (j + 1)) hJ)))⟩
theorem ck_se31 {post : Int32 → St2 → Prop} {J18 : Int32 → Int32 → Prop} {x1 : Int32} {c t i : Nat} (h2 : 2 ≤ c) (hc : c ≤ 3) (hi : i < 12) (e4 : a4 i = nI t) (ht : t < 2 ^ 31)
    (hJ : J18 (x1 + a5 i * nI (ck_seP c t 6)) (nI (i + 1))) :
    ∃ n, wX_selfExchanged_31 post J18 x1 (nI i) f0 (nI c) f2 f3 f4 a1 a2 a3 a4 a5 a6 n 1 1 := by
  refine pk_loop (σ := Unit) (fun n j _ => wX_selfExchanged_31 post J18 x1 (nI i) f0 (nI c) f2 f3 f4 a1 a2 a3 a4 a5 a6 n (nI (ck_seP c t j)) (nI (j + 1))) (fun _ _ => True) 6 0 () (by omega) trivial ?_ ?_
  · intro n _ _
    refine pk_lt 6 7 (fun _ => ⟨pk_in i 12 hi, ?_⟩) (fun z => absurd z (by omega))
    rw [nI_clamp (show i < 2 ^ 31 by omega)]
    exact nm_e (nm_r (nI_1 i) hJ)
  · intro n j _ hj _ hw
    refine pk_lt 6 (j + 1) (fun z => absurd z (by omega)) (fun _ => ⟨by decide, ?_⟩)
    have er : nI (j + 1) - nI (j + 1) / 2 * 2 = nI ((j + 1) % 2) := pk_rem (by omega) (by decide) (by decide)
    rw [er]
    refine pk_eq ((j + 1) % 2) 0 (fun z => ?_) (fun z => ?_)
    · refine ck_se50 hi hj e4 ht ?_ (hw () trivial)
      unfold ck_sc
      rw [if_pos z, show (2 : Int32) = nI 2 from rfl, nI_add, pk_sub (by omega)]
      congr 1
      omega
    · refine ck_se50 hi hj e4 ht ?_ (hw () trivial)
      unfold ck_sc
      rw [if_neg z, show (2 : Int32) = nI 2 from rfl, show (0 : Int32) = nI 0 from rfl, nI_add, pk_sub (by omega)]
      congr 1
      omega
theorem ck_selfL {post : Int32 → St2 → Prop} {c sz : Nat} {L : List (Nat × Nat)} (h2 : 2 ≤ c) (hc : c ≤ 3) (hL : ck_LM L a4 a5) (h0 : 0 < sz) (hsz : sz ≤ 720) (hb : ck_sm (fun t => ck_seP c t 6) L < 2 ^ 31)
    (hp : post (nI (ck_sm (fun t => ck_seP c t 6) L / sz)) (f0, nI c, f2, nI sz, nI L.length, a1, a2, a3, a4, a5, a6)) : ∃ n, wX_selfExchanged_18 post f0 (nI c) f2 (nI sz) (nI L.length) a1 a2 a3 a4 a5 a6 n 0 0 := by
  have h12 := hL.1
  refine pk_loop (σ := Unit) (fun n i _ => wX_selfExchanged_18 post f0 (nI c) f2 (nI sz) (nI L.length) a1 a2 a3 a4 a5 a6 n (nI (ck_sm (fun t => ck_seP c t 6) (L.take i))) (nI i)) (fun _ _ => True) L.length 0 () (by omega) trivial ?_ ?_
  · intro n _ _
    refine pk_le L.length L.length (fun _ => pk_le sz 0 (fun z => absurd z (by omega)) (fun _ => ⟨nI_ne0 h0 (by omega), ?_⟩)) (fun z => absurd z (by omega))
    rw [ck_sm_all, pk_div hb h0 (by omega)]
    exact hp
  · intro n i _ hi _ hw
    obtain ⟨q1, q2, q3⟩ := ck_LM_at hL hi
    refine pk_le L.length i (fun z => absurd z (by omega)) (fun _ => ?_)
    refine ck_se31 h2 hc (by omega) q1 q3 ?_
    rw [ck_sm_step (fun t => ck_seP c t 6) hi q2 rfl]
    exact hw () trivial
/-- the public methods -/
abbrev ck_K (gens : List Nat) (c sz N : Nat) (L : List (Nat × Nat)) (Q : St2 → Prop) : Prop :=
  ∀ (f0 f1 f2 f3 f4 : Int32) (a1 a2 a3 a4 a5 a6 : Nat → Int32), ck_St gens c sz N L f0 f1 f2 f3 f4 a1 a2 a4 a5 → Q (f0, f1, f2, f3, f4, a1, a2, a3, a4, a5, a6)
theorem ck_mk {gens : List Nat} {c sz N : Nat} {L : List (Nat × Nat)} (hG : ck_G gens a1) (h2 : ∀ k, k < sz → a2 k = nI (ck_at N k)) (hL : ck_LM L a4 a5) :
    ck_St gens c sz N L (nI gens.length) (nI c) f2 (nI sz) (nI L.length) a1 a2 a4 a5 := ⟨rfl, rfl, hG, Or.inr ⟨rfl, rfl, h2, hL⟩⟩
theorem ck_order {post : Int32 → St2 → Prop} {gens : List Nat} {c sz N : Nat} {L : List (Nat × Nat)} (hD : ck_Dt gens sz N L) (hS : ck_St gens c sz N L f0 f1 f2 f3 f4 a1 a2 a4 a5)
    (H : ck_K gens c sz N L (post (nI sz))) : wpX_order post (f0, f1, f2, f3, f4, a1, a2, a3, a4, a5, a6) := by
  unfold wpX_order
  exact ck_list hD hS (fun g2 b2 b3 b4 b5 hG h2 hL => H _ _ _ _ _ _ _ _ _ _ _ (ck_mk hG h2 hL))
theorem ck_kinds {post : Int32 → St2 → Prop} {gens : List Nat} {c sz N v : Nat} {L : List (Nat × Nat)} (hD : ck_Dt gens sz N L) (h0 : 0 < sz) (hS : ck_St gens c sz N L f0 f1 f2 f3 f4 a1 a2 a4 a5)
    (hv : ck_sm (fun t => c ^ ck_ac t) L < 2147483648 ∧ ck_sm (fun t => c ^ ck_ac t) L / sz = v)
    (H : ck_K gens c sz N L (post (nI v))) : wpX_kinds post (f0, f1, f2, f3, f4, a1, a2, a3, a4, a5, a6) := by
  unfold wpX_kinds
  exact ck_list hD hS (fun g2 b2 b3 b4 b5 hG h2 hL => ck_kindsOf hL h0 hD.2.1 hv.1 (by rw [hv.2]; exact H _ _ _ _ _ _ _ _ _ _ _ (ck_mk hG h2 hL)))
theorem ck_orbits {post : Int32 → St2 → Prop} {gens : List Nat} {c sz N v : Nat} {L : List (Nat × Nat)} (hD : ck_Dt gens sz N L) (h0 : 0 < sz) (hS : ck_St gens c sz N L f0 f1 f2 f3 f4 a1 a2 a4 a5)
    (hv : ck_sm (fun t => ck_cy t 1) L < 2147483648 ∧ ck_sm (fun t => ck_cy t 1) L / sz = v)
    (H : ck_K gens c sz N L (post (nI v))) : wpX_orbits post (f0, f1, f2, f3, f4, a1, a2, a3, a4, a5, a6) := by
  unfold wpX_orbits
  exact ck_list hD hS (fun g2 b2 b3 b4 b5 hG h2 hL => ck_orbitC hL h0 hD.2.1 hv.1 (by rw [hv.2]; exact H _ _ _ _ _ _ _ _ _ _ _ (ck_mk hG h2 hL)))
theorem ck_still {post : Int32 → St2 → Prop} {gens : List Nat} {c sz N : Nat} {L : List (Nat × Nat)} (hD : ck_Dt gens sz N L) (h0 : 0 < sz) (hS : ck_St gens c sz N L f0 f1 f2 f3 f4 a1 a2 a4 a5)
    (hv : ck_sm (fun t => ck_cy t 1) L < 2147483648 ∧ ck_sm (fun t => ck_cy t 1) L / sz = 1)
    (H : ck_K gens c sz N L (post (nI c))) : wpX_still post (f0, f1, f2, f3, f4, a1, a2, a3, a4, a5, a6) := by
  unfold wpX_still
  exact ck_list hD hS (fun g2 b2 b3 b4 b5 hG h2 hL => ck_orbitC hL h0 hD.2.1 hv.1 (by rw [hv.2]; exact ck_power (by decide) (by rw [Nat.pow_one]; exact H _ _ _ _ _ _ _ _ _ _ _ (ck_mk hG h2 hL))))
theorem ck_pair {post : Int32 → St2 → Prop} {gens : List Nat} {c sz N v : Nat} {L : List (Nat × Nat)} (hD : ck_Dt gens sz N L) (h0 : 0 < sz) (hS : ck_St gens c sz N L f0 f1 f2 f3 f4 a1 a2 a4 a5)
    (hv : ck_sm ck_pr L < 2147483648 ∧ ck_sm ck_pr L / sz = v)
    (H : ck_K gens c sz N L (post (nI v))) : wpX_pairKinds post (f0, f1, f2, f3, f4, a1, a2, a3, a4, a5, a6) := by
  unfold wpX_pairKinds
  exact ck_list hD hS (fun g2 b2 b3 b4 b5 hG h2 hL => ck_pairL hL h0 hD.2.1 hv.1 (by rw [hv.2]; exact H _ _ _ _ _ _ _ _ _ _ _ (ck_mk hG h2 hL)))
theorem ck_with {post : Int32 → St2 → Prop} {gens : List Nat} {c sz N k v : Nat} {L : List (Nat × Nat)} (hD : ck_Dt gens sz N L) (hk : k < 2 ^ 31) (hS : ck_St gens c sz N L f0 f1 f2 f3 f4 a1 a2 a4 a5)
    (hv : ck_sm (ck_wc k) L = v)
    (H : ck_K gens c sz N L (post (nI v))) : wpX_withCycles post (f0, f1, f2, f3, f4, a1, a2, a3, a4, a5, a6) (nI k) := by
  unfold wpX_withCycles
  exact ck_list hD hS (fun g2 b2 b3 b4 b5 hG h2 hL => ck_withL hL hk (by rw [hv]; exact H _ _ _ _ _ _ _ _ _ _ _ (ck_mk hG h2 hL)))
theorem ck_self1 {post : Int32 → St2 → Prop} {gens : List Nat} {sz N : Nat} {L : List (Nat × Nat)} (hD : ck_Dt gens sz N L) (hS : ck_St gens 1 sz N L f0 f1 f2 f3 f4 a1 a2 a4 a5)
    (H : ck_K gens 1 sz N L (post 1)) : wpX_selfExchanged post (f0, f1, f2, f3, f4, a1, a2, a3, a4, a5, a6) := by
  unfold wpX_selfExchanged
  exact ck_list hD hS (fun g2 b2 b3 b4 b5 hG h2 hL => br_t rfl (H _ _ _ _ _ _ _ _ _ _ _ (ck_mk hG h2 hL)))
theorem ck_self {post : Int32 → St2 → Prop} {gens : List Nat} {c sz N v : Nat} {L : List (Nat × Nat)} (h2 : 2 ≤ c) (h3 : c ≤ 3) (hD : ck_Dt gens sz N L) (h0 : 0 < sz) (hS : ck_St gens c sz N L f0 f1 f2 f3 f4 a1 a2 a4 a5)
    (hv : ck_sm (fun t => ck_seP c t 6) L < 2147483648 ∧ ck_sm (fun t => ck_seP c t 6) L / sz = v)
    (H : ck_K gens c sz N L (post (nI v))) : wpX_selfExchanged post (f0, f1, f2, f3, f4, a1, a2, a3, a4, a5, a6) := by
  unfold wpX_selfExchanged
  exact ck_list hD hS (fun g2 b2 b3 b4 b5 hG hh2 hL => br_f (fun z => absurd ((nI_eq (b := 1) (by omega) (by omega)).mp z) (by omega)) (ck_selfL h2 h3 hL h0 hD.2.1 hv.1 (by rw [hv.2]; exact H _ _ _ _ _ _ _ _ _ _ _ (ck_mk hG hh2 hL))))
/-- all kinds with every colour: the values of kindsOf at 1, 2, 3 -/
theorem ck_kall {post : Int32 → St2 → Prop} {gens : List Nat} {c sz N k2 k3 v : Nat} {L : List (Nat × Nat)} (hc : c = 1 ∨ c = 2 ∨ c = 3) (hD : ck_Dt gens sz N L) (h0 : 0 < sz) (hS : ck_St gens c sz N L f0 f1 f2 f3 f4 a1 a2 a4 a5)
    (hv : ∀ c, c < 4 → 0 < c → ck_sm (fun t => c ^ ck_ac t) L < 2147483648 ∧ ck_sm (fun t => c ^ ck_ac t) L / sz = ck_v3 c 1 k2 k3)
    (hk2 : 2 ≤ k2) (hk3 : 3 * k2 ≤ k3) (he : ck_v3 c 1 (k2 - 2) (k3 - 3 * k2 + 3) = v)
    (H : ck_K gens c sz N L (post (nI v))) : wpX_kindsWithAll post (f0, f1, f2, f3, f4, a1, a2, a3, a4, a5, a6) := by
  unfold wpX_kindsWithAll
  refine ck_list hD hS (fun g2 b2 b3 b4 b5 hG h2 hL => ck_kindsOf (cc := 1) hL h0 hD.2.1 (hv 1 (by decide) (by decide)).1 ?_)
  rw [(hv 1 (by decide) (by decide)).2]
  rcases hc with z | z | z
  · subst z
    refine br_t rfl ?_
    rw [← he] at H
    exact H _ _ _ _ _ _ _ _ _ _ _ (ck_mk hG h2 hL)
  · subst z
    refine br_f (by decide) (ck_kindsOf (cc := 2) hL h0 hD.2.1 (hv 2 (by decide) (by decide)).1 ?_)
    rw [(hv 2 (by decide) (by decide)).2]
    refine br_t rfl ?_
    have e : nI (ck_v3 2 1 k2 k3) - (2 * nI (ck_v3 1 1 k2 k3)) = nI v := by
      rw [← he]
      show nI k2 - nI 2 = nI (k2 - 2)
      exact pk_sub hk2
    rw [e]
    exact H _ _ _ _ _ _ _ _ _ _ _ (ck_mk hG h2 hL)
  · subst z
    refine br_f (by decide) (ck_kindsOf (cc := 2) hL h0 hD.2.1 (hv 2 (by decide) (by decide)).1 ?_)
    rw [(hv 2 (by decide) (by decide)).2]
    refine br_f (by decide) (ck_kindsOf (cc := 3) hL h0 hD.2.1 (hv 3 (by decide) (by decide)).1 ?_)
    rw [(hv 3 (by decide) (by decide)).2]
    have e : (nI (ck_v3 3 1 k2 k3) - (3 * nI (ck_v3 2 1 k2 k3))) + (3 * nI (ck_v3 1 1 k2 k3)) = nI v := by
      rw [← he]
      show nI k3 - nI 3 * nI k2 + nI 3 = nI (k3 - 3 * k2 + 3)
      rw [pk_mul, pk_sub hk3, nI_add]
    rw [e]
    exact H _ _ _ _ _ _ _ _ _ _ _ (ck_mk hG h2 hL)
end
end
section
/-! ways: takeCycle, leftWith, kindsWith -/
section
variable {f0 f1 f2 f3 f4 : Int32} {a1 a2 a3 a4 a5 a6 : Nat → Int32}
def ck_wd (W : Nat → Nat → Nat) (a6 : Nat → Int32) : Prop := ∀ m n, m < 7 → n < 7 → a6 (7 * m + n) = nI (W m n)
/-- from place e on the new ways, below it the old ones -/
def ck_wk (W V : Nat → Nat → Nat) (e : Nat) (a6 : Nat → Int32) : Prop := ∀ m n, m < 7 → n < 7 → a6 (7 * m + n) = nI (if e ≤ 7 * m + n then V m n else W m n)
theorem ck_ix (m n : Nat) : 7 * nI m + nI n = nI (7 * m + n) := by
  rw [show (7 : Int32) = nI 7 from rfl, pk_mul, nI_add]
theorem ck_t93 {post : St2 → Prop} {J3 J10 : Int32 → (Nat → Int32) → (Nat → Int32) → (Nat → Int32) → (Nat → Int32) → (Nat → Int32) → (Nat → Int32) → Prop} {x1 : Int32} {m n v : Nat} (hm : m < 7) (hn : n < 7)
    (h : J10 (nI n + (-1)) a1 a2 a3 a4 a5 (upd a6 (7 * m + n) (nI v))) : wX_takeCycle_93 post J3 J10 x1 (nI m) (nI n) (nI v) f0 f1 f2 f3 f4 a1 a2 a3 a4 a5 a6 := by
  unfold wX_takeCycle_93
  rw [ck_ix, nI_clamp (show 7 * m + n < 2 ^ 31 by omega)]
  exact ⟨pk_in (7 * m + n) 49 (by omega), nm_e (nm_e h)⟩
theorem ck_t62 {post : St2 → Prop} {J3 J10 : Int32 → (Nat → Int32) → (Nat → Int32) → (Nat → Int32) → (Nat → Int32) → (Nat → Int32) → (Nat → Int32) → Prop} {c l m n v : Nat} {W V : Nat → Nat → Nat} (hc : c ≤ 3) (h0 : 0 < l) (hl : l < 7) (hm : m < 7) (hn : n < 7)
    (hw : ck_wk W V (7 * m + n + 1) a6)
    (h : J10 (nI n + (-1)) a1 a2 a3 a4 a5 (upd a6 (7 * m + n) (nI (v + if c ≤ 1 then 0 else if n < l then 0 else W m (n - l))))) : wX_takeCycle_62 post J3 J10 (nI l) (nI m) (nI n) (nI v) f0 (nI c) f2 f3 f4 a1 a2 a3 a4 a5 a6 := by
  unfold wX_takeCycle_62
  refine pk_le c 1 (fun z => ck_t93 hm hn ?_) (fun z => pk_lt n l (fun y => ck_t93 hm hn ?_) (fun y => ?_))
  · rw [if_pos z] at h
    exact h
  · rw [if_neg (by omega), if_pos y] at h
    exact h
  · rw [if_neg (by omega), if_neg (by omega)] at h
    have e : 7 * m + n - l = 7 * m + (n - l) := by omega
    have hv := hw m (n - l) hm (by omega)
    rw [if_neg (by omega)] at hv
    rw [ck_ix, pk_sub (show l ≤ 7 * m + n by omega), nI_clamp (show 7 * m + n - l < 2 ^ 31 by omega), e, hv]
    exact ⟨pk_in (7 * m + (n - l)) 49 (by omega), nm_r (nI_add _ _) (ck_t93 hm hn h)⟩
theorem ck_t37 {post : St2 → Prop} {J3 J10 : Int32 → (Nat → Int32) → (Nat → Int32) → (Nat → Int32) → (Nat → Int32) → (Nat → Int32) → (Nat → Int32) → Prop} {c l m n v : Nat} {W V : Nat → Nat → Nat} (hc : c ≤ 3) (h0 : 0 < l) (hl : l < 7) (hm : m < 7) (hn : n < 7)
    (hw : ck_wk W V (7 * m + n + 1) a6)
    (h : J10 (nI n + (-1)) a1 a2 a3 a4 a5 (upd a6 (7 * m + n) (nI (v + (if m < l then 0 else W (m - l) n) + if c ≤ 1 then 0 else if n < l then 0 else W m (n - l))))) : wX_takeCycle_37 post J3 J10 (nI l) (nI m) (nI n) (nI v) f0 (nI c) f2 f3 f4 a1 a2 a3 a4 a5 a6 := by
  unfold wX_takeCycle_37
  refine pk_lt m l (fun y => ?_) (fun y => ?_)
  · rw [if_pos y] at h
    exact ck_t62 hc h0 hl hm hn hw h
  · rw [if_neg (by omega)] at h
    have hv := hw (m - l) n (by omega) hn
    rw [if_neg (by omega)] at hv
    rw [pk_sub y, ck_ix, nI_clamp (show 7 * (m - l) + n < 2 ^ 31 by omega), hv]
    exact ⟨pk_in (7 * (m - l) + n) 49 (by omega), nm_r (nI_add _ _) (ck_t62 hc h0 hl hm hn hw h)⟩
theorem ck_wk_put {W V : Nat → Nat → Nat} {m n : Nat} (hm : m < 7) (hn : n < 7) (hw : ck_wk W V (7 * m + n + 1) a6) : ck_wk W V (7 * m + n) (upd a6 (7 * m + n) (nI (V m n))) := by
  intro p q hp hq
  by_cases z : 7 * p + q = 7 * m + n
  · have e1 : p = m := by omega
    have e2 : q = n := by omega
    rw [e1, e2, pk_us, if_pos (Nat.le_refl _)]
  · rw [pk_un z, hw p q hp hq]
    by_cases y : 7 * m + n ≤ 7 * p + q
    · rw [if_pos y, if_pos (by omega)]
    · rw [if_neg y, if_neg (by omega)]
theorem ck_t10 {post : St2 → Prop} {J3 : Int32 → (Nat → Int32) → (Nat → Int32) → (Nat → Int32) → (Nat → Int32) → (Nat → Int32) → (Nat → Int32) → Prop} {c l m : Nat} {W : Nat → Nat → Nat} (hc : c ≤ 3) (h0 : 0 < l) (hl : l < 7) (hm : m < 7)
    (hJ : ∀ s, ck_wk W (ck_tk c l W) (7 * m) s → J3 (nI m + (-1)) a1 a2 a3 a4 a5 s) (h : ck_wk W (ck_tk c l W) (7 * (m + 1)) a6) :
    ∃ k, wX_takeCycle_10 post J3 (nI l) (nI m) f0 (nI c) f2 f3 f4 k 6 a1 a2 a3 a4 a5 a6 := by
  have main := pk_loopD (σ := Nat → Int32) (fun k n s => n ≤ 7 → wX_takeCycle_10 post J3 (nI l) (nI m) f0 (nI c) f2 f3 f4 k (nI n + (-1)) a1 a2 a3 a4 a5 s) (fun n s => ck_wk W (ck_tk c l W) (7 * m + n) s)
    (fun k s hs _ => br_t (by decide) (nm_e (hJ s hs)))
    (fun k n s hs hw hn => by
      show wX_takeCycle_10 post J3 (nI l) (nI m) f0 (nI c) f2 f3 f4 (k + 1) (nI (n + 1) + (-1)) a1 a2 a3 a4 a5 s
      rw [pk_m1]
      refine br_f (nI_pos (by omega)) ?_
      have hnext : wX_takeCycle_10 post J3 (nI l) (nI m) f0 (nI c) f2 f3 f4 k (nI n + (-1)) a1 a2 a3 a4 a5 (upd s (7 * m + n) (nI (ck_tk c l W m n))) := hw _ (ck_wk_put hm (by omega) hs) (by omega)
      unfold ck_tk at hnext
      refine pk_eq c 3 (fun z => ?_) (fun z => ?_)
      · rw [if_pos z] at hnext
        have hv := hs m n hm (by omega)
        rw [if_neg (by omega)] at hv
        rw [ck_ix, nI_clamp (show 7 * m + n < 2 ^ 31 by omega), hv]
        exact ⟨pk_in (7 * m + n) 49 (by omega), ck_t37 hc h0 hl hm (by omega) hs hnext⟩
      · rw [if_neg z] at hnext
        exact ck_t37 (v := 0) hc h0 hl hm (by omega) hs hnext) 7 a6 h
  exact ⟨8, main (by omega)⟩
theorem ck_take {post : St2 → Prop} {c l : Nat} {W : Nat → Nat → Nat} (hc : c ≤ 3) (h0 : 0 < l) (hl : l < 7) (h : ck_wd W a6)
    (H : ∀ b6, ck_wd (ck_tk c l W) b6 → post (f0, nI c, f2, f3, f4, a1, a2, a3, a4, a5, b6)) : wpX_takeCycle post (f0, nI c, f2, f3, f4, a1, a2, a3, a4, a5, a6) (nI l) := by
  have h49 : ck_wk W (ck_tk c l W) (7 * 7) a6 := by
    intro m n hm hn
    rw [if_neg (by omega)]
    exact h m n hm hn
  have main := pk_loopD (σ := Nat → Int32) (fun k m s => m ≤ 7 → wX_takeCycle_3 post (nI l) f0 (nI c) f2 f3 f4 k (nI m + (-1)) a1 a2 a3 a4 a5 s) (fun m s => ck_wk W (ck_tk c l W) (7 * m) s)
    (fun k s hs _ => br_t (by decide) (H s (fun m n hm hn => by
      have hv := hs m n hm hn
      rw [if_pos (by omega)] at hv
      exact hv)))
    (fun k m s hs hw hm => by
      show wX_takeCycle_3 post (nI l) f0 (nI c) f2 f3 f4 (k + 1) (nI (m + 1) + (-1)) a1 a2 a3 a4 a5 s
      rw [pk_m1]
      exact br_f (nI_pos (by omega)) (ck_t10 hc h0 hl (by omega) (fun s' hs' => hw s' hs' (by omega)) hs)) 7 a6 h49
  exact ⟨8, main (by omega)⟩
theorem ck_lw55 {post : Int32 → St2 → Prop} {J : Int32 → Int32 → Int32 → Int32 → Int32 → Int32 → (Nat → Int32) → (Nat → Int32) → (Nat → Int32) → (Nat → Int32) → (Nat → Int32) → (Nat → Int32) → Prop}
    {x1 x2 x3 : Int32} {c l k : Nat} {W : Nat → Nat → Nat} (hc : c ≤ 3) (h0 : 0 < l) (hl : l < 7) (hk : k < 16) (h : ck_wd W a6)
    (H : ∀ b6, ck_wd (ck_rep c l k W) b6 → J (nI (l + 1)) f0 (nI c) f2 f3 f4 a1 a2 a3 a4 a5 b6) :
    ∃ n, wX_leftWith_55 post J x1 x2 x3 (nI l) (nI k) n 0 f0 (nI c) f2 f3 f4 a1 a2 a3 a4 a5 a6 :=
  pk_loop (σ := Nat → Int32) (fun n i s => wX_leftWith_55 post J x1 x2 x3 (nI l) (nI k) n (nI i) f0 (nI c) f2 f3 f4 a1 a2 a3 a4 a5 s) (fun i s => ck_wd (ck_rep c l i W) s) k 0 a6 (by omega) h
    (fun n s hs => pk_le k k (fun _ => nm_r (nI_1 l) (H s hs)) (fun z => absurd z (by omega)))
    (fun n i s hi hs hw => pk_le k i (fun z => absurd z (by omega)) (fun _ => ck_take hc h0 hl hs (fun b6 hb => nm_r (nI_1 i) (hw b6 hb))))
theorem ck_left {post : Int32 → St2 → Prop} {c t m n : Nat} (hc : c ≤ 3) (ht : t < 2 ^ 31) (hm : m < 7) (hn : n < 7)
    (H : ∀ b6, post (nI (ck_lw c m n t)) (f0, nI c, f2, f3, f4, a1, a2, a3, a4, a5, b6)) : wpX_leftWith post (f0, nI c, f2, f3, f4, a1, a2, a3, a4, a5, a6) (nI t) (nI m) (nI n) := by
  have l36 : ∀ s, ck_wd ck_w0 s → ∃ k, wX_leftWith_36 post (nI t) (nI m) (nI n) k 1 f0 (nI c) f2 f3 f4 a1 a2 a3 a4 a5 s := by
    intro s hs
    refine pk_loop (σ := Nat → Int32) (fun k j s => wX_leftWith_36 post (nI t) (nI m) (nI n) k (nI (j + 1)) f0 (nI c) f2 f3 f4 a1 a2 a3 a4 a5 s) (fun j s => ck_wd (ck_lwP c t j) s) 6 0 s (by omega) hs ?_ ?_
    · intro k s hs
      refine pk_lt 6 7 (fun _ => ?_) (fun z => absurd z (by omega))
      rw [ck_ix, nI_clamp (show 7 * m + n < 2 ^ 31 by omega), hs m n hm hn]
      exact ⟨pk_in (7 * m + n) 49 (by omega), H s⟩
    · intro k j s hj hs hw
      exact pk_lt 6 (j + 1) (fun z => absurd z (by omega)) (fun _ => ck_cyc ht (by omega) (by omega) (ck_lw55 hc (by omega) (by omega) (ck_cy_lt _ _) hs (fun b6 hb => hw b6 hb)))
  refine pk_loop (σ := Nat → Int32) (fun k i s => wX_leftWith_3 post (nI t) (nI m) (nI n) f0 (nI c) f2 f3 f4 k (nI i) a1 a2 a3 a4 a5 s) (fun i s => ∀ j, j < i → s j = nI (if j = 0 then 1 else 0)) 49 0 a6 (by omega) (fun j hj => absurd hj (by omega)) ?_ ?_
  · intro k s hs
    exact pk_le 49 49 (fun _ => l36 s (fun p q hp hq => hs (7 * p + q) (by omega))) (fun z => absurd z (by omega))
  · intro k i s hi hs hw
    refine pk_le 49 i (fun z => absurd z (by omega)) (fun _ => pk_eq i 0 (fun z => ⟨pk_in i 49 hi, ?_⟩) (fun z => ⟨pk_in i 49 hi, ?_⟩))
    · rw [nI_clamp (show i < 2 ^ 31 by omega)]
      refine nm_e (nm_r (nI_1 i) (hw _ (fun j hj => ?_)))
      by_cases y : j = i
      · rw [y, pk_us, if_pos z]
        rfl
      · rw [pk_un y]
        exact hs j (by omega)
    · rw [nI_clamp (show i < 2 ^ 31 by omega)]
      refine nm_e (nm_r (nI_1 i) (hw _ (fun j hj => ?_)))
      by_cases y : j = i
      · rw [y, pk_us, if_neg z]
        rfl
      · rw [pk_un y]
        exact hs j (by omega)
theorem ck_kwL {post : Int32 → St2 → Prop} {c sz m n : Nat} {L : List (Nat × Nat)} (hc : c ≤ 3) (hm : m < 7) (hn : n < 7) (hL : ck_LM L a4 a5) (h0 : 0 < sz) (hsz : sz ≤ 720) (hb : ck_sm (fun t => ck_lw c m n t) L < 2 ^ 31)
    (hp : ∀ b6, post (nI (ck_sm (fun t => ck_lw c m n t) L / sz)) (f0, nI c, f2, nI sz, nI L.length, a1, a2, a3, a4, a5, b6)) : ∃ k, wX_kindsWith_39 post (nI m) (nI n) k 0 0 f0 (nI c) f2 (nI sz) (nI L.length) a1 a2 a3 a4 a5 a6 := by
  have h12 := hL.1
  refine pk_loop (σ := Nat → Int32) (fun k i s => wX_kindsWith_39 post (nI m) (nI n) k (nI (ck_sm (fun t => ck_lw c m n t) (L.take i))) (nI i) f0 (nI c) f2 (nI sz) (nI L.length) a1 a2 a3 a4 a5 s) (fun _ _ => True) L.length 0 a6 (by omega) trivial ?_ ?_
  · intro k s _
    refine pk_le L.length L.length (fun _ => pk_le sz 0 (fun z => absurd z (by omega)) (fun _ => ⟨nI_ne0 h0 (by omega), ?_⟩)) (fun z => absurd z (by omega))
    rw [ck_sm_all, pk_div hb h0 (by omega)]
    exact hp s
  · intro k i s hi _ hw
    obtain ⟨q1, q2, q3⟩ := ck_LM_at hL hi
    refine pk_le L.length i (fun z => absurd z (by omega)) (fun _ => ⟨pk_in i 12 (by omega), ?_⟩)
    rw [nI_clamp (show i < 2 ^ 31 by omega), q1]
    exact ck_left hc q3 hm hn (fun b6 => ⟨pk_in i 12 (by omega), nm_r (ck_sm_step (fun t => ck_lw c m n t) hi q2 rfl) (nm_r (nI_1 i) (hw b6 trivial))⟩)
theorem ck_kw {post : Int32 → St2 → Prop} {gens : List Nat} {c sz N m n v : Nat} {L : List (Nat × Nat)} (hc : c ≤ 3) (hD : ck_Dt gens sz N L) (h0 : 0 < sz) (hmn : m + n ≤ 6) (hS : ck_St gens c sz N L f0 f1 f2 f3 f4 a1 a2 a4 a5)
    (hv : ck_sm (fun t => ck_lw c m n t) L < 2147483648 ∧ ck_sm (fun t => ck_lw c m n t) L / sz = v)
    (H : ck_K gens c sz N L (post (nI v))) : wpX_kindsWith post (f0, f1, f2, f3, f4, a1, a2, a3, a4, a5, a6) (nI m) (nI n) := by
  unfold wpX_kindsWith
  refine br_f (nI_pos (by omega)) (br_f (nI_pos (by omega)) (pk_lt 6 m (fun z => absurd z (by omega)) (fun _ => pk_lt 6 n (fun z => absurd z (by omega)) (fun _ => ?_))))
  rw [nI_add]
  exact pk_le (m + n) 6 (fun _ => ck_list hD hS (fun g2 b2 b3 b4 b5 hG h2 hL => ck_kwL hc (by omega) (by omega) hL h0 hD.2.1 hv.1 (fun b6 => by rw [hv.2]; exact H _ _ _ _ _ _ _ _ _ _ _ (ck_mk hG h2 hL)))) (fun z => absurd z (by omega))
end
end
section
/-! single colourings; colours, add, remove -/
section
variable {f0 f1 f2 f3 f4 : Int32} {a1 a2 a3 a4 a5 a6 : Nat → Int32}
theorem ck_leP_lt {c col N : Nat} (h0 : 0 < c) (h3 : c ≤ 3) (hc : col < 2 ^ 31) : ∀ k, ck_leP c col N k < 2 ^ 31 := by
  intro k
  induction k with
  | zero => exact hc
  | succ k ih =>
    show (if ck_leP c col N k ≤ ck_ca c col (ck_at N k) then ck_leP c col N k else ck_ca c col (ck_at N k)) < 2 ^ 31
    by_cases z : ck_leP c col N k ≤ ck_ca c col (ck_at N k)
    · rw [if_pos z]
      exact ih
    · rw [if_neg z]
      exact ck_ca_lt h0 h3
theorem ck_szP_le (c col N : Nat) : ∀ k, ck_szP c col N k ≤ k := by
  intro k
  induction k with
  | zero => exact Nat.le_refl _
  | succ k ih =>
    show (if ck_ca c col (ck_at N k) = col then ck_szP c col N k + 1 else ck_szP c col N k) ≤ k + 1
    by_cases z : ck_ca c col (ck_at N k) = col
    · rw [if_pos z]
      omega
    · rw [if_neg z]
      omega
theorem ck_least {post : Int32 → Prop} {c col sz N : Nat} (h0 : 0 < c) (h3 : c ≤ 3) (hc : col < 2 ^ 31) (hsz : sz ≤ 720) (h2 : ∀ k, k < sz → a2 k = nI (ck_at N k))
    (hp : post (nI (ck_leP c col N sz))) : wpX_leastOf post (f0, nI c, f2, nI sz, f4, a1, a2, a3, a4, a5, a6) (nI col) := by
  refine pk_loop (σ := Unit) (fun n k _ => wX_leastOf_4 post (nI col) f0 (nI c) f2 (nI sz) f4 a1 a2 a3 a4 a5 a6 n (nI (ck_leP c col N k)) (nI k)) (fun _ _ => True) sz 0 () (by omega) trivial ?_ ?_
  · intro n _ _
    exact pk_le sz sz (fun _ => hp) (fun z => absurd z (by omega))
  · intro n k _ hk _ hw
    have t : wX_leastOf_4 post (nI col) f0 (nI c) f2 (nI sz) f4 a1 a2 a3 a4 a5 a6 n (nI (if ck_leP c col N k ≤ ck_ca c col (ck_at N k) then ck_leP c col N k else ck_ca c col (ck_at N k))) (nI (k + 1)) := hw () trivial
    refine pk_le sz k (fun z => absurd z (by omega)) (fun _ => ⟨pk_in k 720 (by omega), ?_⟩)
    rw [nI_clamp (show k < 2 ^ 31 by omega), h2 k hk]
    have hat := ck_at_lt N k
    refine ck_carried h0 h3 hc (by omega) (pk_le (ck_leP c col N k) (ck_ca c col (ck_at N k)) (fun z => nm_r (nI_1 k) ?_) (fun z => nm_r (nI_1 k) ?_) rfl rfl (ck_leP_lt h0 h3 hc k) (ck_ca_lt h0 h3))
    · rw [if_pos z] at t
      exact t
    · rw [if_neg (by omega)] at t
      exact t
theorem ck_sizeL {post : Int32 → St2 → Prop} {c col sz N : Nat} (h0 : 0 < c) (h3 : c ≤ 3) (hc : col < 2 ^ 31) (hsz : sz ≤ 720) (h2 : ∀ k, k < sz → a2 k = nI (ck_at N k)) (hq : 0 < ck_szP c col N sz)
    (hp : post (nI (sz / ck_szP c col N sz)) (f0, nI c, f2, nI sz, f4, a1, a2, a3, a4, a5, a6)) : ∃ n, wX_size_19 post (nI col) f0 (nI c) f2 (nI sz) f4 a1 a2 a3 a4 a5 a6 n 0 0 := by
  refine pk_loop (σ := Unit) (fun n k _ => wX_size_19 post (nI col) f0 (nI c) f2 (nI sz) f4 a1 a2 a3 a4 a5 a6 n (nI (ck_szP c col N k)) (nI k)) (fun _ _ => True) sz 0 () (by omega) trivial ?_ ?_
  · intro n _ _
    have hle := ck_szP_le c col N sz
    refine pk_le sz sz (fun _ => pk_le (ck_szP c col N sz) 0 (fun z => absurd z (by omega)) (fun _ => ⟨nI_ne0 hq (by omega), ?_⟩)) (fun z => absurd z (by omega))
    rw [pk_div (by omega) hq (by omega)]
    exact hp
  · intro n k _ hk _ hw
    have t : wX_size_19 post (nI col) f0 (nI c) f2 (nI sz) f4 a1 a2 a3 a4 a5 a6 n (nI (if ck_ca c col (ck_at N k) = col then ck_szP c col N k + 1 else ck_szP c col N k)) (nI (k + 1)) := hw () trivial
    refine pk_le sz k (fun z => absurd z (by omega)) (fun _ => ⟨pk_in k 720 (by omega), ?_⟩)
    rw [nI_clamp (show k < 2 ^ 31 by omega), h2 k hk]
    have hat := ck_at_lt N k
    refine ck_carried h0 h3 hc (by omega) (pk_eq (ck_ca c col (ck_at N k)) col (fun z => nm_r (nI_1 _) (nm_r (nI_1 k) ?_)) (fun z => nm_r (nI_1 k) ?_) rfl rfl (ck_ca_lt h0 h3) hc)
    · rw [if_pos z] at t
      exact t
    · rw [if_neg z] at t
      exact t
theorem ck_p6 {c col : Nat} (h3 : c ≤ 3) (hc : col < c ^ 6) : col < 2 ^ 31 := by
  have h : c ^ 6 ≤ 3 ^ 6 := Nat.pow_le_pow_left h3 _
  exact Nat.lt_of_lt_of_le hc (Nat.le_trans h (by decide))
theorem ck_name {post : Int32 → St2 → Prop} {gens : List Nat} {c sz N col v : Nat} {L : List (Nat × Nat)} (h0 : 0 < c) (h3 : c ≤ 3) (hc : col < c ^ 6) (hD : ck_Dt gens sz N L) (hS : ck_St gens c sz N L f0 f1 f2 f3 f4 a1 a2 a4 a5)
    (hv : ck_leP c col N sz = v) (H : ck_K gens c sz N L (post (nI v))) : wpX_name post (f0, f1, f2, f3, f4, a1, a2, a3, a4, a5, a6) (nI col) := by
  unfold wpX_name
  have e := hS.2.1
  subst e
  exact ck_bad0 h3 hc (br_t rfl (ck_list hD hS (fun g2 b2 b3 b4 b5 hG h2 hL => ck_least h0 h3 (ck_p6 h3 hc) hD.2.1 h2 (by rw [hv]; exact H _ _ _ _ _ _ _ _ _ _ _ (ck_mk hG h2 hL)))))
theorem ck_size {post : Int32 → St2 → Prop} {gens : List Nat} {c sz N col v : Nat} {L : List (Nat × Nat)} (h0 : 0 < c) (h3 : c ≤ 3) (hc : col < c ^ 6) (hD : ck_Dt gens sz N L) (hS : ck_St gens c sz N L f0 f1 f2 f3 f4 a1 a2 a4 a5)
    (hq : 0 < ck_szP c col N sz) (hv : sz / ck_szP c col N sz = v) (H : ck_K gens c sz N L (post (nI v))) : wpX_size post (f0, f1, f2, f3, f4, a1, a2, a3, a4, a5, a6) (nI col) := by
  unfold wpX_size
  have e := hS.2.1
  subst e
  exact ck_bad0 h3 hc (br_t rfl (ck_list hD hS (fun g2 b2 b3 b4 b5 hG h2 hL => ck_sizeL h0 h3 (ck_p6 h3 hc) hD.2.1 h2 hq (by rw [hv]; exact H _ _ _ _ _ _ _ _ _ _ _ (ck_mk hG h2 hL)))))
theorem ck_alike {post : Int32 → St2 → Prop} {gens : List Nat} {c sz N col oth : Nat} {L : List (Nat × Nat)} (h0 : 0 < c) (h3 : c ≤ 3) (hc : col < c ^ 6) (ho : oth < c ^ 6) (hD : ck_Dt gens sz N L) (hS : ck_St gens c sz N L f0 f1 f2 f3 f4 a1 a2 a4 a5)
    (hv : ck_leP c col N sz = ck_leP c oth N sz) (H : ck_K gens c sz N L (post 1)) : wpX_alike post (f0, f1, f2, f3, f4, a1, a2, a3, a4, a5, a6) (nI col) (nI oth) := by
  unfold wpX_alike
  have e := hS.2.1
  subst e
  exact ck_bad0 h3 hc (br_t rfl (ck_bad0 h3 ho (br_t rfl (ck_list hD hS (fun g2 b2 b3 b4 b5 hG h2 hL => ck_least h0 h3 (ck_p6 h3 hc) hD.2.1 h2 (ck_least h0 h3 (ck_p6 h3 ho) hD.2.1 h2 (br_t (by rw [hv]) (H _ _ _ _ _ _ _ _ _ _ _ (ck_mk hG h2 hL)))))))))
theorem ck_nameB {post : Int32 → St2 → Prop} {c col : Nat} (hc : c ^ 6 ≤ col) (hl : col < 2 ^ 31) (e : f1 = nI c) (H : post (-4) (f0, f1, f2, f3, f4, a1, a2, a3, a4, a5, a6)) : wpX_name post (f0, f1, f2, f3, f4, a1, a2, a3, a4, a5, a6) (nI col) := by
  unfold wpX_name
  subst e
  exact ck_bad1 hc hl (br_f (by decide) H)
theorem ck_sizeB {post : Int32 → St2 → Prop} (H : post (-4) (f0, f1, f2, f3, f4, a1, a2, a3, a4, a5, a6)) : wpX_size post (f0, f1, f2, f3, f4, a1, a2, a3, a4, a5, a6) (-1) := by
  unfold wpX_size
  exact ck_badN (br_f (by decide) H)
theorem ck_alikeB {post : Int32 → St2 → Prop} {c col : Nat} (h0 : 0 < c) (h3 : c ≤ 3) (hc : c ^ 6 ≤ col) (hl : col < 2 ^ 31) (e : f1 = nI c) (H : post 0 (f0, f1, f2, f3, f4, a1, a2, a3, a4, a5, a6)) : wpX_alike post (f0, f1, f2, f3, f4, a1, a2, a3, a4, a5, a6) (nI 0) (nI col) := by
  unfold wpX_alike
  subst e
  exact ck_bad0 h3 (Nat.pow_pos h0) (br_t rfl (ck_bad1 hc hl (br_f (by decide) H)))
/-- add, remove -/
theorem ck_G_add {gens : List Nat} {g : Nat} (hG : ck_G gens a1) (hl : gens.length < 3) (hg : g < 2 ^ 31) : ck_G (gens ++ [g]) (upd a1 gens.length (nI g)) := by
  refine ⟨by rw [List.length_append]; exact hl, fun i x hx => ?_⟩
  by_cases z : i < gens.length
  · rw [List.getElem?_append_left z] at hx
    rw [pk_un (show i ≠ gens.length by omega)]
    exact hG.2 i x hx
  · by_cases y : i = gens.length
    · rw [y] at hx
      have hx' : some g = some x := Eq.trans (by simp) hx
      rw [y, pk_us, ← Option.some.inj hx']
      exact ⟨rfl, hg⟩
    · rw [List.getElem?_eq_none (by rw [List.length_append]; show gens.length + 1 ≤ i; omega)] at hx
      exact absurd hx.symm (Option.some_ne_none x)
theorem ck_G_pre {pre : List Nat} {g : Nat} (hG : ck_G (pre ++ [g]) a1) : ck_G pre a1 := by
  refine ⟨?_, fun i x hx => hG.2 i x ?_⟩
  · have h := hG.1
    rw [List.length_append] at h
    omega
  · have h : i < pre.length := by
      apply Classical.byContradiction
      intro z
      rw [List.getElem?_eq_none (by omega)] at hx
      exact absurd hx.symm (Option.some_ne_none x)
    rw [List.getElem?_append_left h]
    exact hx
theorem ck_add {post : Int32 → St2 → Prop} {gens : List Nat} {c sz N sz' N' code g v : Nat} {L L' : List (Nat × Nat)} (hS : ck_St gens c sz N L f0 f1 f2 f3 f4 a1 a2 a4 a5) (hl : gens.length < 3) (hv : gens.length + 1 = v) (hc : code < 2 ^ 31)
    (hi : ck_inP code 6 = (g, 63, 0)) (hg : g < 2 ^ 31) (H : ck_K (gens ++ [g]) c sz' N' L' (post (nI v))) : wpX_add post (f0, f1, f2, f3, f4, a1, a2, a3, a4, a5, a6) (nI code) := by
  obtain ⟨e0, e1, hG, _⟩ := hS
  subst e0 e1 hv
  unfold wpX_add
  refine br_t (nI_pos' hc) (ck_insideT hc hi ?_)
  unfold wX_add_13
  refine br_t (nI_pos' hg) (pk_eq gens.length 3 (fun z => absurd z (by omega)) (fun _ => ⟨pk_in gens.length 3 hl, ?_⟩))
  rw [nI_clamp (show gens.length < 2 ^ 31 by omega)]
  exact nm_e (nm_r (nI_1 _) (H _ _ _ _ _ _ _ _ _ _ _ ⟨by rw [List.length_append]; rfl, rfl, ck_G_add hG hl hg, Or.inl rfl⟩))
theorem ck_addFull {post : Int32 → St2 → Prop} {gens : List Nat} {c sz N code g : Nat} {L : List (Nat × Nat)} (hS : ck_St gens c sz N L f0 f1 f2 f3 f4 a1 a2 a4 a5) (hl : gens.length = 3) (hc : code < 2 ^ 31)
    (hi : ck_inP code 6 = (g, 63, 0)) (hg : g < 2 ^ 31) (H : ck_K gens c sz N L (post (-2))) : wpX_add post (f0, f1, f2, f3, f4, a1, a2, a3, a4, a5, a6) (nI code) := by
  unfold wpX_add
  refine br_t (nI_pos' hc) (ck_insideT hc hi ?_)
  unfold wX_add_13
  exact br_t (nI_pos' hg) (br_t (by rw [hS.1, hl]; rfl) (H _ _ _ _ _ _ _ _ _ _ _ hS))
theorem ck_addBad {post : Int32 → St2 → Prop} {gens : List Nat} {c sz N code : Nat} {L : List (Nat × Nat)} (hS : ck_St gens c sz N L f0 f1 f2 f3 f4 a1 a2 a4 a5) (hc : code < 2 ^ 31)
    (hi : (ck_inP code 6).2.1 = 1) (H : ck_K gens c sz N L (post (-1))) : wpX_add post (f0, f1, f2, f3, f4, a1, a2, a3, a4, a5, a6) (nI code) := by
  unfold wpX_add
  refine br_t (nI_pos' hc) (ck_insideF hc hi ?_)
  unfold wX_add_13
  exact br_f (by decide) (H _ _ _ _ _ _ _ _ _ _ _ hS)
theorem ck_remove {post : Int32 → St2 → Prop} {pre : List Nat} {c sz N sz' N' g v : Nat} {L L' : List (Nat × Nat)} (hS : ck_St (pre ++ [g]) c sz N L f0 f1 f2 f3 f4 a1 a2 a4 a5) (hv : ck_ou g = v)
    (H : ck_K pre c sz' N' L' (post (nI v))) : wpX_remove post (f0, f1, f2, f3, f4, a1, a2, a3, a4, a5, a6) := by
  obtain ⟨e0, e1, hG, _⟩ := hS
  have hl := hG.1
  rw [List.length_append] at e0 hl
  have hl' : pre.length + 1 ≤ 3 := hl
  have e0' : f0 = nI (pre.length + 1) := e0
  subst e0' e1
  obtain ⟨q1, q2⟩ := hG.2 pre.length g (by simp)
  unfold wpX_remove
  refine br_f (nI_ne0 (by omega) (by omega)) (nm_r (nI_pred _) ⟨pk_in pre.length 3 (by omega), ?_⟩)
  rw [nI_clamp (show pre.length < 2 ^ 31 by omega), q1]
  exact ck_outside q2 (by rw [hv]; exact H _ _ _ _ _ _ _ _ _ _ _ ⟨rfl, rfl, ck_G_pre hG, Or.inl rfl⟩)
theorem ck_removeN {post : Int32 → St2 → Prop} {c sz N : Nat} {L : List (Nat × Nat)} (hS : ck_St [] c sz N L f0 f1 f2 f3 f4 a1 a2 a4 a5)
    (H : ck_K [] c sz N L (post (-4))) : wpX_remove post (f0, f1, f2, f3, f4, a1, a2, a3, a4, a5, a6) := by
  unfold wpX_remove
  exact br_t hS.1 (H _ _ _ _ _ _ _ _ _ _ _ hS)
theorem ck_colBad {post : Int32 → St2 → Prop} {gens : List Nat} {c sz N : Nat} {L : List (Nat × Nat)} (hS : ck_St gens c sz N L f0 f1 f2 f3 f4 a1 a2 a4 a5)
    (H : ck_K gens c sz N L (post (-1))) : wpX_colours post (f0, f1, f2, f3, f4, a1, a2, a3, a4, a5, a6) 4 := by
  unfold wpX_colours
  exact br_f (by decide) (br_f (by decide) (H _ _ _ _ _ _ _ _ _ _ _ hS))
end
end
section
/-! the four groups of the law; colourings' facts -/
theorem ck_Dt_of {gens : List Nat} {sz : Nat} {L : List (Nat × Nat)} (e : ck_allK gens = (sz, L)) (h : sz ≤ 720) (hl : L.length ≤ 12) : ck_Dt gens sz (ck_run gens).2.1 L := by
  rw [ck_allK_eq] at e
  have e1 : (ck_run gens).1 = sz := congrArg Prod.fst e
  have e2 : ck_shs (ck_run gens).2.1 (ck_run gens).1 = L := congrArg Prod.snd e
  rw [e1] at e2
  exact ⟨e1, h, rfl, e2, hl⟩
theorem ck_s6 {P : Nat → Prop} (h0 : P 0) (h1 : P 1) (h2 : P 2) (h3 : P 3) (h4 : P 4) (h5 : P 5) {s : Nat} (hs : s < 6) : P s := by
  have h : s = 0 ∨ s = 1 ∨ s = 2 ∨ s = 3 ∨ s = 4 ∨ s = 5 := by omega
  rcases h with z | z | z | z | z | z
  · rw [z]; exact h0
  · rw [z]; exact h1
  · rw [z]; exact h2
  · rw [z]; exact h3
  · rw [z]; exact h4
  · rw [z]; exact h5
def ck_N0 : Nat := (ck_run []).2.1
def ck_N2 (s : Nat) : Nat := (ck_run [22737, ck_gM s]).2.1
def ck_N3 (s : Nat) : Nat := (ck_run [22737, ck_gM s, ck_gW s]).2.1
theorem ck_D0 : ck_Dt [] 1 ck_N0 ck_L0 := ck_Dt_of ck_f0 (by decide) (by decide)
theorem ck_D1 : ck_Dt [22737] 6 ck_N6 ck_L1 := by
  have h := ck_Dt_of ck_f1 (by decide) (by decide)
  have e : (ck_run [22737]).2.1 = ck_N6 := by
    have h1 := ck_f1N
    rw [ck_bfK_eq, ← ck_p0_eq] at h1
    unfold ck_run
    generalize ck_bf [22737] 720 0 ck_p0 = p at h1 ⊢
    exact h1
  rw [e] at h
  exact h
theorem ck_D2 {s : Nat} (hs : s < 6) : ck_Dt [22737, ck_gM s] 12 (ck_N2 s) (ck_L2 s) :=
  ck_s6 (P := fun s => ck_Dt [22737, ck_gM s] 12 (ck_N2 s) (ck_L2 s)) (ck_Dt_of ck_f2_0 (by decide) (by decide)) (ck_Dt_of ck_f2_1 (by decide) (by decide)) (ck_Dt_of ck_f2_2 (by decide) (by decide))
    (ck_Dt_of ck_f2_3 (by decide) (by decide)) (ck_Dt_of ck_f2_4 (by decide) (by decide)) (ck_Dt_of ck_f2_5 (by decide) (by decide)) hs
theorem ck_D3 {s : Nat} (hs : s < 6) : ck_Dt [22737, ck_gM s, ck_gW s] 720 (ck_N3 s) (ck_L3 s) :=
  ck_s6 (P := fun s => ck_Dt [22737, ck_gM s, ck_gW s] 720 (ck_N3 s) (ck_L3 s)) (ck_Dt_of ck_f3_0 (by decide) (by decide)) (ck_Dt_of ck_f3_1 (by decide) (by decide)) (ck_Dt_of ck_f3_2 (by decide) (by decide))
    (ck_Dt_of ck_f3_3 (by decide) (by decide)) (ck_Dt_of ck_f3_4 (by decide) (by decide)) (ck_Dt_of ck_f3_5 (by decide) (by decide)) hs
/-- how many colourings -/
def ck_al (c : Nat) : Nat := ck_v3 c 1 64 729
theorem ck_al_p {c : Nat} (hc : c = 1 ∨ c = 2 ∨ c = 3) : c ^ 6 = ck_al c := by
  rcases hc with z | z | z <;> subst z <;> decide
theorem ck_al_b {c : Nat} (hc : c = 1 ∨ c = 2 ∨ c = 3) : 0 < ck_al c ∧ ck_al c ≤ 729 ∧ 0 < ck_al c / c ∧ ck_al c / c ≤ 729 := by
  rcases hc with z | z | z <;> subst z <;> decide
theorem ck_chk_of {c col : Nat} (hc : c = 1 ∨ c = 2 ∨ c = 3) (hl : col < ck_al c) : ck_chk c (ck_al c) col = true := by
  rcases hc with z | z | z
  · subst z
    exact ck_up_of _ 1 ck_c1 col hl
  · subst z
    exact ck_up_of _ 64 ck_c2 col hl
  · subst z
    exact ck_up_of _ 729 ck_c3 col hl
theorem ck_col {c col : Nat} (hc : c = 1 ∨ c = 2 ∨ c = 3) (hl : col < ck_al c) :
    ck_leP c col ck_N6 6 = (ck_llP c (ck_al c) col 5).1 ∧ ck_leP c (ck_llP c (ck_al c) col 5).1 ck_N6 6 = (ck_llP c (ck_al c) col 5).1 ∧ (ck_llP c (ck_al c) col 5).1 < ck_al c ∧
    0 < ck_szP c col ck_N6 6 ∧ 6 / ck_szP c col ck_N6 6 = (ck_llP c (ck_al c) col 5).2.2 := by
  have h := ck_chk_of hc hl
  unfold ck_chk at h
  rw [ck_fo_eq] at h
  simp only [Bool.and_eq_true] at h
  obtain ⟨⟨⟨⟨h1, h2⟩, h3⟩, h4⟩, h5⟩ := h
  exact ⟨Nat.eq_of_beq_eq_true h1, Nat.eq_of_beq_eq_true h2, Nat.le_of_ble_eq_true h3, Nat.le_of_ble_eq_true h4, Nat.eq_of_beq_eq_true h5⟩
theorem ck_no_lt {c x : Nat} (hc : c = 1 ∨ c = 2 ∨ c = 3) (hx : x < ck_al c) : ck_no c (ck_al c) x < ck_al c := by
  rcases hc with z | z | z
  · subst z
    show 0 < 1
    decide
  · subst z
    have hx' : x < 64 := hx
    show (x - x / 32 * 32) * 2 + x / 32 < 64
    omega
  · subst z
    have hx' : x < 729 := hx
    show (x - x / 243 * 243) * 3 + x / 243 < 729
    omega
theorem ck_ll_b {c col : Nat} (hc : c = 1 ∨ c = 2 ∨ c = 3) (hl : col < ck_al c) : ∀ i, (ck_llP c (ck_al c) col i).1 < ck_al c ∧ (ck_llP c (ck_al c) col i).2.1 < ck_al c ∧ (ck_llP c (ck_al c) col i).2.2 ≤ i + 1 := by
  intro i
  induction i with
  | zero => exact ⟨hl, hl, Nat.le_refl _⟩
  | succ i ih =>
    obtain ⟨h1, h2, h3⟩ := ih
    have hn := ck_no_lt hc h2
    refine ⟨?_, hn, ?_⟩
    · show (if (ck_llP c (ck_al c) col i).1 ≤ ck_no c (ck_al c) (ck_llP c (ck_al c) col i).2.1 then (ck_llP c (ck_al c) col i).1 else ck_no c (ck_al c) (ck_llP c (ck_al c) col i).2.1) < ck_al c
      by_cases z : (ck_llP c (ck_al c) col i).1 ≤ ck_no c (ck_al c) (ck_llP c (ck_al c) col i).2.1
      · rw [if_pos z]
        exact h1
      · rw [if_neg z]
        exact hn
    · show (if ck_no c (ck_al c) (ck_llP c (ck_al c) col i).2.1 = col then (ck_llP c (ck_al c) col i).2.2 else if (ck_llP c (ck_al c) col i).2.2 = i + 1 then i + 2 else (ck_llP c (ck_al c) col i).2.2) ≤ i + 1 + 1
      by_cases z : ck_no c (ck_al c) (ck_llP c (ck_al c) col i).2.1 = col
      · rw [if_pos z]
        omega
      · rw [if_neg z]
        by_cases y : (ck_llP c (ck_al c) col i).2.2 = i + 1
        · rw [if_pos y]
          omega
        · rw [if_neg y]
          omega
end
section
/-! the law, from its end backwards to the mirror -/
section
variable {f0 f1 f2 f3 f4 : Int32} {a1 a2 a3 a4 a5 a6 : Nat → Int32} {post : Int32 → St0 → Prop} {mc ms kc ks s c : Nat}
theorem ck_l831 (hp : post 1 ()) (hs : s < 6) (hc : c = 1 ∨ c = 2 ∨ c = 3) (hS : ck_St [22737, ck_gM s, ck_gW s] c 720 (ck_N3 s) (ck_L3 s) f0 f1 f2 f3 f4 a1 a2 a4 a5) :
    wL_lawOf_831 post mc ms (nI (ck_al c)) (nI 7465) (nI (ck_cM s)) (nI (ck_cW s)) 1 kc ks f0 f1 f2 f3 f4 a1 a2 a3 a4 a5 a6 := by
  obtain ⟨q1, q2, q3, q4⟩ := ck_fcl s hs
  have h0 : 0 < c := by omega
  have h3 : c ≤ 3 := by omega
  have hal := ck_al_b hc
  have hp6 := ck_al_p hc
  unfold wL_lawOf_831
  refine br_f (by decide) (ck_addFull hS rfl (by decide) ck_finT (by decide) ?_)
  intro f0 f1 f2 f3 f4 a1 a2 a3 a4 a5 a6 hS
  refine br_t rfl (ck_addBad (code := 0) hS (by decide) ck_fin0 ?_)
  intro f0 f1 f2 f3 f4 a1 a2 a3 a4 a5 a6 hS
  refine br_t rfl (ck_addBad (code := 46656) hS (by decide) ck_finX ?_)
  intro f0 f1 f2 f3 f4 a1 a2 a3 a4 a5 a6 hS
  refine br_t rfl (ck_remove (pre := [22737, ck_gM s]) (g := ck_gW s) (sz' := 12) (N' := ck_N2 s) (L' := ck_L2 s) hS (ck_fouW s hs) ?_)
  intro f0 f1 f2 f3 f4 a1 a2 a3 a4 a5 a6 hS
  refine br_t rfl (ck_order (ck_D2 hs) hS ?_)
  intro f0 f1 f2 f3 f4 a1 a2 a3 a4 a5 a6 hS
  refine br_t rfl (ck_remove (pre := [22737]) (g := ck_gM s) (sz' := 6) (N' := ck_N6) (L' := ck_L1) hS (ck_fouM s hs) ?_)
  intro f0 f1 f2 f3 f4 a1 a2 a3 a4 a5 a6 hS
  refine br_t rfl (ck_remove (pre := []) (g := 22737) (sz' := 1) (N' := ck_N0) (L' := ck_L0) hS ck_fouT ?_)
  intro f0 f1 f2 f3 f4 a1 a2 a3 a4 a5 a6 hS
  refine br_t rfl (ck_removeN hS ?_)
  intro f0 f1 f2 f3 f4 a1 a2 a3 a4 a5 a6 hS
  refine br_t rfl (ck_order ck_D0 hS ?_)
  intro f0 f1 f2 f3 f4 a1 a2 a3 a4 a5 a6 hS
  refine br_t rfl (ck_kinds ck_D0 (by decide) hS (ck_k0 c (by omega) h0) ?_)
  intro f0 f1 f2 f3 f4 a1 a2 a3 a4 a5 a6 hS
  refine br_t rfl (ck_colBad hS ?_)
  intro f0 f1 f2 f3 f4 a1 a2 a3 a4 a5 a6 hS
  refine br_t rfl (ck_nameB (c := c) (by omega) (by omega) hS.2.1 ?_)
  refine br_t rfl (ck_sizeB ?_)
  exact br_t rfl (ck_alikeB (c := c) h0 h3 (by omega) (by omega) hS.2.1 (br_t rfl hp))
theorem ck_l806 (hp : post 1 ()) (hs : s < 6) (hc : c = 1 ∨ c = 2 ∨ c = 3) {z0 z1 : Int32} (hz : z1 = z0) (hS : ck_St [22737, ck_gM s, ck_gW s] c 720 (ck_N3 s) (ck_L3 s) f0 f1 f2 f3 f4 a1 a2 a4 a5) :
    wL_lawOf_806 post mc ms (nI (ck_al c)) (nI 7465) (nI (ck_cM s)) (nI (ck_cW s)) z0 z1 kc ks f0 f1 f2 f3 f4 a1 a2 a3 a4 a5 a6 := by
  unfold wL_lawOf_806
  refine br_t hz (ck_with (k := 0) (ck_D3 hs) (by decide) hS (ck_wc3 s hs).2.2.1 ?_)
  intro f0 f1 f2 f3 f4 a1 a2 a3 a4 a5 a6 hS
  refine br_t rfl (ck_with (k := 7) (ck_D3 hs) (by decide) hS (ck_wc3 s hs).2.2.2 ?_)
  intro f0 f1 f2 f3 f4 a1 a2 a3 a4 a5 a6 hS
  exact br_t rfl (ck_l831 hp hs hc hS)
theorem ck_l766 (hp : post 1 ()) (hs : s < 6) (hc : c = 1 ∨ c = 2 ∨ c = 3) {z0 z1 : Int32} (hz : z1 = z0) (hS : ck_St [22737, ck_gM s, ck_gW s] c 720 (ck_N3 s) (ck_L3 s) f0 f1 f2 f3 f4 a1 a2 a4 a5) :
    wL_lawOf_766 post mc ms (nI c) (nI (ck_al c)) (nI 7465) (nI (ck_cM s)) (nI (ck_cW s)) z0 z1 kc ks f0 f1 f2 f3 f4 a1 a2 a3 a4 a5 a6 := by
  have h0 : 0 < c := by omega
  have h3 : c ≤ 3 := by omega
  unfold wL_lawOf_766
  refine br_t hz (ck_with (k := 1) (ck_D3 hs) (by decide) hS (ck_wc3 s hs).1 ?_)
  intro f0 f1 f2 f3 f4 a1 a2 a3 a4 a5 a6 hS
  refine br_t rfl (ck_with (k := 5) (ck_D3 hs) (by decide) hS (ck_wc3 s hs).2.1 ?_)
  intro f0 f1 f2 f3 f4 a1 a2 a3 a4 a5 a6 hS
  refine br_t rfl (ck_kw (m := 2) (n := 2) h3 (ck_D3 hs) (by decide) (by decide) hS (ck_w22 s hs c (by omega) h0) ?_)
  intro f0 f1 f2 f3 f4 a1 a2 a3 a4 a5 a6 hS
  rcases hc with z | z | z
  · subst z
    exact br_f (by decide) (ck_l806 hp hs (by decide) rfl hS)
  · subst z
    exact br_f (by decide) (ck_l806 hp hs (by decide) rfl hS)
  · subst z
    exact br_t rfl (ck_l806 hp hs (by decide) rfl hS)
theorem ck_l742 (hp : post 1 ()) (hs : s < 6) (hc : c = 1 ∨ c = 2 ∨ c = 3) {z0 z1 : Int32} (hz : z1 = z0) (hS : ck_St [22737, ck_gM s, ck_gW s] c 720 (ck_N3 s) (ck_L3 s) f0 f1 f2 f3 f4 a1 a2 a4 a5) :
    wL_lawOf_742 post mc ms (nI c) (nI (ck_al c)) (nI 7465) (nI (ck_cM s)) (nI (ck_cW s)) z0 z1 kc ks f0 f1 f2 f3 f4 a1 a2 a3 a4 a5 a6 := by
  unfold wL_lawOf_742
  rcases hc with z | z | z
  · subst z
    refine br_t hz (ck_self1 (ck_D3 hs) hS ?_)
    intro f0 f1 f2 f3 f4 a1 a2 a3 a4 a5 a6 hS
    refine br_t rfl ?_
    unfold wL_lawOf_761
    exact ck_l766 hp hs (by decide) rfl hS
  · subst z
    refine br_t hz (ck_self (by decide) (by decide) (ck_D3 hs) (by decide) hS (ck_s3 s hs 2 (by decide) (by decide)) ?_)
    intro f0 f1 f2 f3 f4 a1 a2 a3 a4 a5 a6 hS
    refine br_f (by decide) (br_t rfl ?_)
    unfold wL_lawOf_761
    exact ck_l766 hp hs (by decide) rfl hS
  · subst z
    refine br_t hz (ck_self (by decide) (by decide) (ck_D3 hs) (by decide) hS (ck_s3 s hs 3 (by decide) (by decide)) ?_)
    intro f0 f1 f2 f3 f4 a1 a2 a3 a4 a5 a6 hS
    exact br_f (by decide) (br_f (by decide) (ck_l766 hp hs (by decide) rfl hS))
theorem ck_l696 (hp : post 1 ()) (hs : s < 6) (hc : c = 1 ∨ c = 2 ∨ c = 3) {z0 z1 : Int32} (hz : z1 = z0) (hS : ck_St [22737, ck_gM s, ck_gW s] c 720 (ck_N3 s) (ck_L3 s) f0 f1 f2 f3 f4 a1 a2 a4 a5) :
    wL_lawOf_696 post mc ms (nI c) (nI (ck_al c)) (nI 7465) (nI (ck_cM s)) (nI (ck_cW s)) z0 z1 kc ks f0 f1 f2 f3 f4 a1 a2 a3 a4 a5 a6 := by
  unfold wL_lawOf_696
  refine br_t hz (ck_pair (ck_D3 hs) (by decide) hS (ck_r3 s hs) ?_)
  intro f0 f1 f2 f3 f4 a1 a2 a3 a4 a5 a6 hS
  refine br_t rfl (ck_still (ck_D3 hs) (by decide) hS (ck_o3 s hs) ?_)
  intro f0 f1 f2 f3 f4 a1 a2 a3 a4 a5 a6 hS
  refine br_t rfl (ck_kall (v := ck_v3 c 1 5 10) hc (ck_D3 hs) (by decide) hS (ck_k3 s hs) (by decide) (by decide) rfl ?_)
  intro f0 f1 f2 f3 f4 a1 a2 a3 a4 a5 a6 hS
  rcases hc with z | z | z
  · subst z
    exact br_t rfl (ck_l742 hp hs (by decide) rfl hS)
  · subst z
    exact br_f (by decide) (br_t rfl (ck_l742 hp hs (by decide) rfl hS))
  · subst z
    exact br_f (by decide) (br_f (by decide) (ck_l742 hp hs (by decide) rfl hS))
theorem ck_l642 (hp : post 1 ()) (hs : s < 6) (hc : c = 1 ∨ c = 2 ∨ c = 3) (hS : ck_St [22737, ck_gM s] c 12 (ck_N2 s) (ck_L2 s) f0 f1 f2 f3 f4 a1 a2 a4 a5) :
    wL_lawOf_642 post mc ms (nI c) (nI (ck_al c)) (nI 7465) (nI (ck_cM s)) (nI (ck_cW s)) 1 kc ks f0 f1 f2 f3 f4 a1 a2 a3 a4 a5 a6 := by
  obtain ⟨q1, q2, q3, q4⟩ := ck_fcl s hs
  have h0 : 0 < c := by omega
  unfold wL_lawOf_642
  refine br_f (by decide) (ck_add (v := 3) (g := ck_gW s) (sz' := 720) (N' := ck_N3 s) (L' := ck_L3 s) hS (show 2 < 3 by decide) rfl (by omega) (ck_finW s hs) (by omega) ?_)
  intro f0 f1 f2 f3 f4 a1 a2 a3 a4 a5 a6 hS
  refine br_t rfl (ck_order (ck_D3 hs) hS ?_)
  intro f0 f1 f2 f3 f4 a1 a2 a3 a4 a5 a6 hS
  refine br_t rfl (ck_kinds (ck_D3 hs) (by decide) hS (ck_k3 s hs c (by omega) h0) ?_)
  intro f0 f1 f2 f3 f4 a1 a2 a3 a4 a5 a6 hS
  rcases hc with z | z | z
  · subst z
    exact br_t rfl (ck_l696 hp hs (by decide) rfl hS)
  · subst z
    exact br_f (by decide) (br_t rfl (ck_l696 hp hs (by decide) rfl hS))
  · subst z
    exact br_f (by decide) (br_f (by decide) (ck_l696 hp hs (by decide) rfl hS))
theorem ck_l637 (hp : post 1 ()) (hs : s < 6) (hc : c = 1 ∨ c = 2 ∨ c = 3) (hS : ck_St [22737, ck_gM s] c 12 (ck_N2 s) (ck_L2 s) f0 f1 f2 f3 f4 a1 a2 a4 a5) :
    wL_lawOf_637 post mc ms (nI c) (nI (ck_al c)) (nI 7465) (nI (ck_cM s)) (nI (ck_cW s)) kc ks f0 f1 f2 f3 f4 a1 a2 a3 a4 a5 a6 := by
  unfold wL_lawOf_637
  exact ck_l642 hp hs hc hS
theorem ck_l610 (hp : post 1 ()) (hs : s < 6) (hc : c = 1 ∨ c = 2 ∨ c = 3) {z0 z1 : Int32} (hz : z1 = z0) (hS : ck_St [22737, ck_gM s] c 12 (ck_N2 s) (ck_L2 s) f0 f1 f2 f3 f4 a1 a2 a4 a5) :
    wL_lawOf_610 post mc ms (nI c) (nI (ck_al c)) (nI 7465) (nI (ck_cM s)) (nI (ck_cW s)) z0 z1 kc ks f0 f1 f2 f3 f4 a1 a2 a3 a4 a5 a6 := by
  unfold wL_lawOf_610
  rcases hc with z | z | z
  · subst z
    refine br_t hz (br_f (by decide) (ck_self1 (ck_D2 hs) hS ?_))
    intro f0 f1 f2 f3 f4 a1 a2 a3 a4 a5 a6 hS
    refine br_t rfl ?_
    unfold wL_lawOf_634
    exact br_t rfl (ck_l637 hp hs (by decide) hS)
  · subst z
    refine br_t hz (br_f (by decide) (ck_self (by decide) (by decide) (ck_D2 hs) (by decide) hS (ck_s2 s hs) ?_))
    intro f0 f1 f2 f3 f4 a1 a2 a3 a4 a5 a6 hS
    refine br_f (by decide) ?_
    unfold wL_lawOf_634
    exact br_t rfl (ck_l637 hp hs (by decide) hS)
  · subst z
    exact br_t hz (br_t rfl (ck_l637 hp hs (by decide) hS))
theorem ck_l590 (hp : post 1 ()) (hs : s < 6) (hc : c = 1 ∨ c = 2 ∨ c = 3) {z0 z1 : Int32} (hz : z1 = z0) (hS : ck_St [22737, ck_gM s] c 12 (ck_N2 s) (ck_L2 s) f0 f1 f2 f3 f4 a1 a2 a4 a5) :
    wL_lawOf_590 post mc ms (nI c) (nI (ck_al c)) (nI 7465) (nI (ck_cM s)) (nI (ck_cW s)) z0 z1 kc ks f0 f1 f2 f3 f4 a1 a2 a3 a4 a5 a6 := by
  have h0 : 0 < c := by omega
  have h3 : c ≤ 3 := by omega
  unfold wL_lawOf_590
  refine br_t hz (ck_kw (m := 3) (n := 3) h3 (ck_D2 hs) (by decide) (by decide) hS (ck_w33b s hs c (by omega) h0) ?_)
  intro f0 f1 f2 f3 f4 a1 a2 a3 a4 a5 a6 hS
  rcases hc with z | z | z
  · subst z
    exact br_t rfl (ck_l610 hp hs (by decide) rfl hS)
  · subst z
    exact br_f (by decide) (ck_l610 hp hs (by decide) rfl hS)
  · subst z
    exact br_f (by decide) (ck_l610 hp hs (by decide) rfl hS)
theorem ck_l537 (hp : post 1 ()) (hs : s < 6) (hc : c = 1 ∨ c = 2 ∨ c = 3) (hS : ck_St [22737] c 6 ck_N6 ck_L1 f0 f1 f2 f3 f4 a1 a2 a4 a5) :
    wL_lawOf_537 post mc ms (nI c) (nI (ck_al c)) (nI 7465) (nI (ck_cM s)) (nI (ck_cW s)) 1 kc ks f0 f1 f2 f3 f4 a1 a2 a3 a4 a5 a6 := by
  obtain ⟨q1, q2, q3, q4⟩ := ck_fcl s hs
  have h0 : 0 < c := by omega
  unfold wL_lawOf_537
  refine br_f (by decide) (ck_add (v := 2) (g := ck_gM s) (sz' := 12) (N' := ck_N2 s) (L' := ck_L2 s) hS (show 1 < 3 by decide) rfl (by omega) (ck_finM s hs) (by omega) ?_)
  intro f0 f1 f2 f3 f4 a1 a2 a3 a4 a5 a6 hS
  refine br_t rfl (ck_order (ck_D2 hs) hS ?_)
  intro f0 f1 f2 f3 f4 a1 a2 a3 a4 a5 a6 hS
  refine br_t rfl (ck_kinds (ck_D2 hs) (by decide) hS (ck_k2 s hs c (by omega) h0) ?_)
  intro f0 f1 f2 f3 f4 a1 a2 a3 a4 a5 a6 hS
  rcases hc with z | z | z
  · subst z
    exact br_t rfl (ck_l590 hp hs (by decide) rfl hS)
  · subst z
    exact br_f (by decide) (br_t rfl (ck_l590 hp hs (by decide) rfl hS))
  · subst z
    exact br_f (by decide) (br_f (by decide) (ck_l590 hp hs (by decide) rfl hS))
end
end
section
/-! the law, its first half -/
section
variable {f0 f1 f2 f3 f4 : Int32} {a1 a2 a3 a4 a5 a6 : Nat → Int32} {post : Int32 → St0 → Prop} {mc ms kc ks s c : Nat}
theorem ck_l529 (hp : post 1 ()) (hs : s < 6) (hc : c = 1 ∨ c = 2 ∨ c = 3) {z0 z1 : Int32} (hz : z1 = z0) (hS : ck_St [22737] c 6 ck_N6 ck_L1 f0 f1 f2 f3 f4 a1 a2 a4 a5) :
    wL_lawOf_529 post mc ms (nI c) (nI (ck_al c)) (nI 7465) (nI (ck_cM s)) (nI (ck_cW s)) z0 z1 kc ks f0 f1 f2 f3 f4 a1 a2 a3 a4 a5 a6 := by
  unfold wL_lawOf_529
  exact br_t hz (ck_l537 hp hs hc hS)
theorem ck_l499 (hp : post 1 ()) (hs : s < 6) (hc : c = 1 ∨ c = 2 ∨ c = 3) {z0 z1 : Int32} (hz : z1 = z0) (hS : ck_St [22737] c 6 ck_N6 ck_L1 f0 f1 f2 f3 f4 a1 a2 a4 a5) :
    wL_lawOf_499 post mc ms (nI c) (nI (ck_al c)) (nI 7465) (nI (ck_cM s)) (nI (ck_cW s)) z0 z1 kc ks f0 f1 f2 f3 f4 a1 a2 a3 a4 a5 a6 := by
  unfold wL_lawOf_499
  refine br_t hz (ck_kall (v := ck_v3 c 1 12 91) hc ck_D1 (by decide) hS ck_k1 (by decide) (by decide) rfl ?_)
  intro f0 f1 f2 f3 f4 a1 a2 a3 a4 a5 a6 hS
  rcases hc with z | z | z
  · subst z
    exact br_t rfl (ck_l529 hp hs (by decide) rfl hS)
  · subst z
    exact br_f (by decide) (br_t rfl (ck_l529 hp hs (by decide) rfl hS))
  · subst z
    exact br_f (by decide) (br_f (by decide) (ck_l529 hp hs (by decide) rfl hS))
theorem ck_l479 (hp : post 1 ()) (hs : s < 6) (hc : c = 1 ∨ c = 2 ∨ c = 3) {z0 z1 : Int32} (hz : z1 = z0) (hS : ck_St [22737] c 6 ck_N6 ck_L1 f0 f1 f2 f3 f4 a1 a2 a4 a5) :
    wL_lawOf_479 post mc ms (nI c) (nI (ck_al c)) (nI 7465) (nI (ck_cM s)) (nI (ck_cW s)) z0 z1 kc ks f0 f1 f2 f3 f4 a1 a2 a3 a4 a5 a6 := by
  have h0 : 0 < c := by omega
  have h3 : c ≤ 3 := by omega
  unfold wL_lawOf_479
  refine br_t hz (ck_kw (m := 3) (n := 3) h3 ck_D1 (by decide) (by decide) hS (ck_w33 c (by omega) h0) ?_)
  intro f0 f1 f2 f3 f4 a1 a2 a3 a4 a5 a6 hS
  rcases hc with z | z | z
  · subst z
    exact br_t rfl (ck_l499 hp hs (by decide) rfl hS)
  · subst z
    exact br_f (by decide) (ck_l499 hp hs (by decide) rfl hS)
  · subst z
    exact br_f (by decide) (ck_l499 hp hs (by decide) rfl hS)
theorem ck_l400 {J : Int32 → Int32 → Int32 → Int32 → Prop} {x5 x6 x7 x8 x9 x11 x12 z0 : Int32} {le w i : Nat} (hle : le < 2 ^ 31) (hw : w < 2 ^ 31) (hJ : J (nI (if le ≤ w then le else w)) (nI w) z0 (nI (i + 1))) :
    wL_lawOf_400 post mc ms J x5 x6 x7 x8 x9 x11 x12 (nI le) (nI w) (nI i) z0 kc ks f0 f1 f2 f3 f4 a1 a2 a3 a4 a5 a6 := by
  unfold wL_lawOf_400
  refine pk_le le w (fun z => nm_r (nI_1 i) ?_) (fun z => nm_r (nI_1 i) ?_) rfl rfl hle hw
  · rw [if_pos z] at hJ
    exact hJ
  · rw [if_neg (by omega)] at hJ
    exact hJ
theorem ck_l373 {J : Int32 → Int32 → Int32 → Int32 → Prop} {x5 x6 x7 x8 x9 x11 : Int32} {col le sz w i : Nat} (hcol : col < 2 ^ 31) (hle : le < 2 ^ 31) (hsz : sz < 2 ^ 30) (hi : i < 2 ^ 30) (hw : w < 2 ^ 31)
    (hJ : J (nI (if le ≤ w then le else w)) (nI w) (nI (if w = col then sz else if sz = i + 1 then i + 2 else sz)) (nI (i + 1))) :
    wL_lawOf_373 post mc ms J x5 x6 x7 x8 x9 x11 (nI col) (nI le) (nI sz) (nI i) (nI w) kc ks f0 f1 f2 f3 f4 a1 a2 a3 a4 a5 a6 := by
  unfold wL_lawOf_373
  refine pk_eq w col (fun z => ?_) (fun z => ?_)
  · unfold wL_lawOf_398
    rw [if_pos z] at hJ
    exact ck_l400 hle hw hJ
  · rw [if_neg z] at hJ
    rw [nI_1]
    refine pk_eq sz (i + 1) (fun y => ?_) (fun y => ?_)
    · rw [if_pos y] at hJ
      rw [show (2 : Int32) = nI 2 from rfl, nI_add]
      exact ck_l400 hle hw hJ
    · unfold wL_lawOf_398
      rw [if_neg y] at hJ
      exact ck_l400 hle hw hJ
theorem ck_l330x (hp : post 1 ()) (hs : s < 6) (hc : c = 1 ∨ c = 2 ∨ c = 3) {col n : Nat} (hcol : col < ck_al c) {x14 : Int32} (hS : ck_St [22737] c 6 ck_N6 ck_L1 f0 f1 f2 f3 f4 a1 a2 a4 a5) :
    wL_lawOf_330 post mc ms (nI c) (nI (ck_al c)) (nI 7465) (nI (ck_cM s)) (nI (ck_cW s)) 1 (nI col) kc ks f0 f1 f2 f3 f4 a1 a2 a3 a4 a5 a6 (n + 1) (nI (ck_llP c (ck_al c) col 5).1) x14 (nI (ck_llP c (ck_al c) col 5).2.2) (nI 5) := by
  obtain ⟨h1, h2, h4, h5, h6⟩ := ck_col hc hcol
  have h0 : 0 < c := by omega
  have h3 : c ≤ 3 := by omega
  have hp6 := ck_al_p hc
  have hcol' : col < c ^ 6 := by rw [hp6]; exact hcol
  have h4' : (ck_llP c (ck_al c) col 5).1 < c ^ 6 := by rw [hp6]; exact h4
  refine pk_le 5 5 (fun _ => br_f (by decide) (ck_name h0 h3 hcol' ck_D1 hS h1 ?_)) (fun z => absurd z (by omega))
  intro f0 f1 f2 f3 f4 a1 a2 a3 a4 a5 a6 hS
  refine br_t rfl (ck_size h0 h3 hcol' ck_D1 hS h5 h6 ?_)
  intro f0 f1 f2 f3 f4 a1 a2 a3 a4 a5 a6 hS
  refine br_t rfl (ck_alike h0 h3 hcol' h4' ck_D1 hS (by rw [h1, h2]) ?_)
  intro f0 f1 f2 f3 f4 a1 a2 a3 a4 a5 a6 hS
  refine br_f (by decide) (ck_kw (m := 2) (n := 4) h3 ck_D1 (by decide) (by decide) hS (ck_w24 c (by omega) h0) ?_)
  intro f0 f1 f2 f3 f4 a1 a2 a3 a4 a5 a6 hS
  rcases hc with z | z | z
  · subst z
    exact br_t rfl (ck_l479 hp hs (by decide) rfl hS)
  · subst z
    exact br_f (by decide) (ck_l479 hp hs (by decide) rfl hS)
  · subst z
    exact br_f (by decide) (ck_l479 hp hs (by decide) rfl hS)
theorem ck_l304 (hp : post 1 ()) (hs : s < 6) (hc : c = 1 ∨ c = 2 ∨ c = 3) {x2 : Int32} (hS : ck_St [22737] c 6 ck_N6 ck_L1 f0 f1 f2 f3 f4 a1 a2 a4 a5) :
    wL_lawOf_304 post mc ms x2 (nI c) (nI (ck_al c)) (nI 7465) (nI (ck_cM s)) (nI (ck_cW s)) 1 kc ks f0 f1 f2 f3 f4 a1 a2 a3 a4 a5 a6 := by
  obtain ⟨b1, b2, b3, b4⟩ := ck_al_b hc
  obtain ⟨j, hj, ej⟩ := pk_andE x2 (m := 1023) 10 (by decide)
  have hj' : j < 1024 := hj
  have h0 : 0 < c := by omega
  have hcol : j % ck_al c < ck_al c := Nat.mod_lt _ b1
  unfold wL_lawOf_304
  rw [ej]
  refine ⟨nI_ne0 b1 (by omega), nm_r (pk_rem (by omega) b1 (by omega)) ?_⟩
  generalize j % ck_al c = col at hcol ⊢
  refine pk_loop (σ := Unit) (fun n i _ => wL_lawOf_330 post mc ms (nI c) (nI (ck_al c)) (nI 7465) (nI (ck_cM s)) (nI (ck_cW s)) 1 (nI col) kc ks f0 f1 f2 f3 f4 a1 a2 a3 a4 a5 a6 n (nI (ck_llP c (ck_al c) col i).1) (nI (ck_llP c (ck_al c) col i).2.1) (nI (ck_llP c (ck_al c) col i).2.2) (nI i)) (fun _ _ => True) 5 0 () (by omega) trivial ?_ ?_
  · intro n _ _
    exact ck_l330x hp hs hc hcol hS
  · intro n i _ hi _ hw
    obtain ⟨l1, l2, l3⟩ := ck_ll_b hc hcol i
    have hn := ck_no_lt hc l2
    refine pk_le 5 i (fun z => absurd z (by omega)) (fun _ => ⟨nI_ne0 h0 (by omega), ?_⟩)
    rw [pk_div (show ck_al c < 2 ^ 31 by omega) h0 (by omega)]
    refine ⟨nI_ne0 b3 (by omega), nm_r (pk_div (by omega) b3 (by omega)) ?_⟩
    refine pk_eq c 1 (fun z => ?_) (fun z => ⟨nI_ne0 h0 (by omega), ?_⟩)
    · refine ck_l373 (w := 0) (by omega) (by omega) (by omega) (by omega) (by omega) ?_
      have e : ck_no c (ck_al c) (ck_llP c (ck_al c) col i).2.1 = 0 := if_pos z
      have t : wL_lawOf_330 post mc ms (nI c) (nI (ck_al c)) (nI 7465) (nI (ck_cM s)) (nI (ck_cW s)) 1 (nI col) kc ks f0 f1 f2 f3 f4 a1 a2 a3 a4 a5 a6 n (nI (ck_llS c (ck_al c) col i (ck_llP c (ck_al c) col i)).1) (nI (ck_llS c (ck_al c) col i (ck_llP c (ck_al c) col i)).2.1) (nI (ck_llS c (ck_al c) col i (ck_llP c (ck_al c) col i)).2.2) (nI (i + 1)) := hw () trivial
      unfold ck_llS at t
      rw [e] at t
      exact t
    · have e : (nI (ck_llP c (ck_al c) col i).2.1 - (nI ((ck_llP c (ck_al c) col i).2.1 / (ck_al c / c)) * nI (ck_al c / c))) * nI c + nI ((ck_llP c (ck_al c) col i).2.1 / (ck_al c / c)) = nI (ck_no c (ck_al c) (ck_llP c (ck_al c) col i).2.1) := by
        unfold ck_no
        rw [if_neg z, pk_mul, pk_sub (Nat.div_mul_le_self _ _), pk_mul, nI_add]
      rw [e]
      exact ck_l373 (by omega) (by omega) (by omega) (by omega) (by omega) (hw () trivial)
theorem ck_l234 (hp : post 1 ()) (hs : s < 6) (hc : c = 1 ∨ c = 2 ∨ c = 3) {x2 z0 z1 : Int32} (hz : z1 = z0) (hS : ck_St [22737] c 6 ck_N6 ck_L1 f0 f1 f2 f3 f4 a1 a2 a4 a5) :
    wL_lawOf_234 post mc ms x2 (nI c) (nI (ck_al c)) (nI 7465) (nI (ck_cM s)) (nI (ck_cW s)) z0 z1 kc ks f0 f1 f2 f3 f4 a1 a2 a3 a4 a5 a6 := by
  obtain ⟨w1, w2, w3, w4⟩ := ck_wc1
  unfold wL_lawOf_234
  refine br_t hz (ck_orbits ck_D1 (by decide) hS ck_o1 ?_)
  intro f0 f1 f2 f3 f4 a1 a2 a3 a4 a5 a6 hS
  refine br_t rfl (ck_still ck_D1 (by decide) hS ck_o1 ?_)
  intro f0 f1 f2 f3 f4 a1 a2 a3 a4 a5 a6 hS
  refine br_t rfl (ck_pair ck_D1 (by decide) hS ck_r1 ?_)
  intro f0 f1 f2 f3 f4 a1 a2 a3 a4 a5 a6 hS
  refine br_t rfl (ck_with (k := 1) ck_D1 (by decide) hS w1 ?_)
  intro f0 f1 f2 f3 f4 a1 a2 a3 a4 a5 a6 hS
  refine br_t rfl (ck_with (k := 2) ck_D1 (by decide) hS w2 ?_)
  intro f0 f1 f2 f3 f4 a1 a2 a3 a4 a5 a6 hS
  refine br_t rfl (ck_with (k := 3) ck_D1 (by decide) hS w3 ?_)
  intro f0 f1 f2 f3 f4 a1 a2 a3 a4 a5 a6 hS
  refine br_t rfl (ck_with (k := 6) ck_D1 (by decide) hS w4 ?_)
  intro f0 f1 f2 f3 f4 a1 a2 a3 a4 a5 a6 hS
  exact br_t rfl (ck_l304 hp hs hc hS)
theorem ck_l132 {J : Int32 → Int32 → Int32 → Int32 → Int32 → Prop} {x2 x4 x5 x6 x12 x13 z : Int32} {i : Nat} (h12 : x12 = nI ((i + 1) % 6)) (h13 : x13 = nI ((s + 6 - i) % 6)) (hz : z = nI (ck_sw s i))
    (hJ : J (nI (ck_co s (i + 1)).1) (nI (ck_co s (i + 1)).2.1) (nI (ck_co s (i + 1)).2.2.1) (nI (ck_co s (i + 1)).2.2.2) (nI (i + 1))) :
    wL_lawOf_132 post mc ms J x2 x4 x5 x6 (nI (ck_co s i).1) (nI (ck_co s i).2.1) (nI (ck_co s i).2.2.1) (nI (ck_co s i).2.2.2) (nI i) x12 x13 z kc ks f0 f1 f2 f3 f4 a1 a2 a3 a4 a5 a6 := by
  subst h12 h13 hz
  unfold wL_lawOf_132
  exact nm_r (e' := nI (ck_co s (i + 1)).1) (by rw [pk_mul, nI_add]; rfl) (nm_r (e' := nI (ck_co s (i + 1)).2.1) (by rw [pk_mul, nI_add]; rfl) (nm_r (e' := nI (ck_co s (i + 1)).2.2.1) (by rw [pk_mul, nI_add]; rfl)
    (nm_r (e' := nI (ck_co s (i + 1)).2.2.2) (by rw [show (6 : Int32) = nI 6 from rfl, pk_mul]; rfl) (nm_r (nI_1 i) hJ))))
theorem ck_l50 (hp : post 1 ()) (hs : s < 6) (hc : c = 1 ∨ c = 2 ∨ c = 3) {x2 : Int32} :
    wL_lawOf_50 post mc ms x2 (nI s) (nI c) (nI (ck_al c)) kc ks 0 2 0 0 0 a1 a2 a3 a4 a5 a6 := by
  obtain ⟨c1, c2, c3⟩ := ck_fco s hs
  have h0 : 0 < c := by omega
  unfold wL_lawOf_50
  refine pk_loop (σ := Unit) (fun n i _ => wL_lawOf_67 post mc ms x2 (nI s) (nI c) (nI (ck_al c)) kc ks 0 2 0 0 0 a1 a2 a3 a4 a5 a6 n (nI (ck_co s i).1) (nI (ck_co s i).2.1) (nI (ck_co s i).2.2.1) (nI (ck_co s i).2.2.2) (nI i)) (fun _ _ => True) 6 0 () (by omega) trivial ?_ ?_
  · intro n _ _
    show wL_lawOf_67 post mc ms x2 (nI s) (nI c) (nI (ck_al c)) kc ks 0 2 0 0 0 a1 a2 a3 a4 a5 a6 (n + 1) (nI (ck_co s 6).1) (nI (ck_co s 6).2.1) (nI (ck_co s 6).2.2.1) (nI (ck_co s 6).2.2.2) (nI 6)
    rw [c1, c2, c3]
    refine pk_le 6 6 (fun _ => ?_) (fun z => absurd z (by omega))
    unfold wpX_colours
    refine br_f (nI_nlt (b := 1) (by omega) (by omega)) (br_t (nI_le (b := 3) (by omega) (by omega)) (br_t rfl ?_))
    have hS : ck_St [] c 0 0 [] 0 (nI c) 0 0 0 a1 a2 a4 a5 := ⟨rfl, rfl, ⟨by decide, fun i g h => by simp at h⟩, Or.inl rfl⟩
    refine ck_add (v := 1) (g := 22737) (sz' := 6) (N' := ck_N6) (L' := ck_L1) hS (by decide) rfl (by decide) ck_finT (by decide) ?_
    intro f0 f1 f2 f3 f4 a1 a2 a3 a4 a5 a6 hS
    refine br_t rfl (ck_order ck_D1 hS ?_)
    intro f0 f1 f2 f3 f4 a1 a2 a3 a4 a5 a6 hS
    refine br_t rfl (ck_kinds ck_D1 (by decide) hS (ck_k1 c (by omega) h0) ?_)
    intro f0 f1 f2 f3 f4 a1 a2 a3 a4 a5 a6 hS
    rcases hc with z | z | z
    · subst z
      exact br_t rfl (ck_l234 hp hs (by decide) rfl hS)
    · subst z
      exact br_f (by decide) (br_t rfl (ck_l234 hp hs (by decide) rfl hS))
    · subst z
      exact br_f (by decide) (br_f (by decide) (ck_l234 hp hs (by decide) rfl hS))
  · intro n i _ hi _ hw
    have e1 : (nI i + 1) - (nI i + 1) / 6 * 6 = nI ((i + 1) % 6) := by
      rw [nI_1]
      exact pk_rem (by omega) (by decide) (by decide)
    have e2 : ((nI s + 6) - nI i) - ((nI s + 6) - nI i) / 6 * 6 = nI ((s + 6 - i) % 6) := by
      rw [show nI s + 6 = nI (s + 6) from nI_add s 6, pk_sub (by omega)]
      exact pk_rem (by omega) (by decide) (by decide)
    have e3 : (nI s + 1) - (nI s + 1) / 6 * 6 = nI ((s + 1) % 6) := by
      rw [nI_1]
      exact pk_rem (by omega) (by decide) (by decide)
    refine pk_le 6 i (fun z => absurd z (by omega)) (fun _ => ⟨by decide, nm_r e1 ⟨by decide, nm_r e2 ?_⟩⟩)
    rw [e3]
    refine pk_eq i s (fun z => ⟨by decide, ck_l132 rfl rfl ?_ (hw () trivial)⟩) (fun z => ⟨by decide, pk_eq i ((s + 1) % 6) (fun y => ck_l132 rfl rfl ?_ (hw () trivial)) (fun y => ck_l132 rfl rfl ?_ (hw () trivial))⟩)
    · unfold ck_sw
      rw [if_pos z]
    · unfold ck_sw
      rw [if_neg z, if_pos y]
    · unfold ck_sw
      rw [if_neg z, if_neg y]
theorem ck_lawOf (hp : post 1 ()) (p0 p1 p2 : Int32) : wpL_lawOf post 1442 23072 () p0 p1 p2 := by
  unfold wpL_lawOf
  refine ⟨by decide, by decide, 6, 2844, by decide, by decide, ?_⟩
  obtain ⟨j, hj, ej⟩ := pk_andE p0 (m := 7) 3 (by decide)
  obtain ⟨k, hk, ek⟩ := pk_andE p1 (m := 3) 2 (by decide)
  have hj' : j < 8 := hj
  have hk' : k < 4 := hk
  rw [ej, ek]
  refine ⟨by decide, by decide, by decide, by decide, by decide, by decide, by decide, by decide, by decide, by decide, by decide, by decide, ?_⟩
  have e1 : nI j - nI j / 6 * 6 = nI (j % 6) := pk_rem (by omega) (by decide) (by decide)
  have e2 : 1 + (nI k - nI k / 3 * 3) = nI (1 + k % 3) := by
    rw [show nI k - nI k / 3 * 3 = nI (k % 3) from pk_rem (by omega) (by decide) (by decide)]
    exact nI_add 1 (k % 3)
  have hs : j % 6 < 6 := Nat.mod_lt _ (by decide)
  have hc : 1 + k % 3 = 1 ∨ 1 + k % 3 = 2 ∨ 1 + k % 3 = 3 := by omega
  refine ⟨by decide, nm_r e1 ⟨by decide, nm_r e2 ?_⟩⟩
  generalize j % 6 = s at hs ⊢
  generalize 1 + k % 3 = c at hc ⊢
  rcases hc with z | z | z
  · subst z
    exact br_t rfl (ck_l50 (c := 1) hp hs (by decide))
  · subst z
    exact br_f (by decide) (br_t rfl (ck_l50 (c := 2) hp hs (by decide)))
  · subst z
    exact br_f (by decide) (br_f (by decide) (ck_l50 (c := 3) hp hs (by decide)))
end
end
section
theorem ck_cell {post : Int32 → Prop} {L k : Nat} {xs : Nat → Int32} {u : St0} (hL : L ≤ 3) (hk : k ≤ 2) (H : ∀ r, post r) : wpL_cellAt post L xs u (nI k) :=
  pk_le L k (fun _ => H 0) (fun z => ⟨pk_in k L z, H _⟩)
theorem i_vc (xs : Nat → Int32) (L : Nat) (hL : L ≤ 3) : wpL_law (fun r => r = 1) L xs := by
  unfold wpL_law
  exact ck_cell (k := 0) hL (by decide) (fun r1 => ck_cell (k := 1) hL (by decide) (fun r2 => ck_cell (k := 2) hL (by decide) (fun r3 => ⟨1442, 23072, by decide, by decide, ck_lawOf rfl r1 r2 r3⟩)))
end
