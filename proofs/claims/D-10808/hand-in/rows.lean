section
/-! digits of a number: an array of small values kept in one Nat -/
/-- digit i of x in base B -/
def td_g (B x i : Nat) : Nat := Nat.mod (Nat.div x (Nat.pow B i)) B
/-- x with its digit i put to v -/
def td_s (B x i v : Nat) : Nat := Nat.add (Nat.sub x (Nat.mul (td_g B x i) (Nat.pow B i))) (Nat.mul v (Nat.pow B i))
theorem td_g_eq (B x i : Nat) : td_g B x i = x / B ^ i % B := rfl
theorem td_g_lt {B : Nat} (hB : 0 < B) (x i : Nat) : td_g B x i < B := Nat.mod_lt _ hB
theorem td_g_0 (B i : Nat) : td_g B 0 i = 0 := by
  rw [td_g_eq, Nat.zero_div, Nat.zero_mod]
theorem td_aux (p q r B t u v x : Nat) (h1 : p * q + r = x) (h2 : B * t + u = q) : x - u * p + v * p = (t * B + v) * p + r := by
  subst h2
  subst h1
  have e1 : p * (B * t + u) = t * B * p + u * p := by rw [Nat.mul_add, Nat.mul_comm p u, Nat.mul_comm B t, Nat.mul_comm p]
  have e2 : (t * B + v) * p = t * B * p + v * p := Nat.add_mul _ _ _
  omega
theorem td_s_eq (B x i v : Nat) : td_s B x i v = (x / B ^ i / B * B + v) * B ^ i + x % B ^ i :=
  td_aux (B ^ i) (x / B ^ i) (x % B ^ i) B (x / B ^ i / B) (x / B ^ i % B) v x (Nat.div_add_mod x (B ^ i)) (Nat.div_add_mod (x / B ^ i) B)
theorem td_s_div {B : Nat} (hB : 0 < B) (x i v : Nat) : td_s B x i v / B ^ i = x / B ^ i / B * B + v := by
  have hp : 0 < B ^ i := Nat.pow_pos hB
  rw [td_s_eq, Nat.add_comm, Nat.add_mul_div_right _ _ hp, Nat.div_eq_of_lt (Nat.mod_lt _ hp), Nat.zero_add]
theorem td_gs {B : Nat} (hB : 0 < B) (x i : Nat) {v : Nat} (hv : v < B) : td_g B (td_s B x i v) i = v := by
  rw [td_g_eq, td_s_div hB, Nat.add_comm, Nat.add_mul_mod_self_right, Nat.mod_eq_of_lt hv]
theorem td_low {B : Nat} (hB : 0 < B) (A r j k : Nat) : (A * B ^ (j + 1 + k) + r) / B ^ j % B = r / B ^ j % B := by
  have e : A * B ^ (j + 1 + k) = A * B ^ k * B * B ^ j := by
    rw [Nat.pow_add, Nat.pow_add, Nat.pow_one]
    ac_rfl
  rw [e, Nat.add_comm, Nat.add_mul_div_right _ _ (Nat.pow_pos hB), Nat.add_mul_mod_self_right]
theorem td_gn {B : Nat} (hB : 0 < B) (x : Nat) {i j : Nat} (hij : j ≠ i) {v : Nat} (hv : v < B) : td_g B (td_s B x i v) j = td_g B x j := by
  rcases Nat.lt_or_ge j i with h | h
  · obtain ⟨k, rfl⟩ : ∃ k, i = j + 1 + k := ⟨i - (j + 1), by omega⟩
    have hx : x = x / B ^ (j + 1 + k) * B ^ (j + 1 + k) + x % B ^ (j + 1 + k) := by rw [Nat.mul_comm]; exact (Nat.div_add_mod x _).symm
    rw [td_g_eq, td_s_eq, td_low hB]
    rw [td_g_eq, show x / B ^ j % B = (x / B ^ (j + 1 + k) * B ^ (j + 1 + k) + x % B ^ (j + 1 + k)) / B ^ j % B from by rw [← hx], td_low hB]
  · obtain ⟨k, rfl⟩ : ∃ k, j = i + 1 + k := ⟨j - (i + 1), by omega⟩
    have e : ∀ y, y / B ^ (i + 1 + k) = y / B ^ i / B / B ^ k := by
      intro y
      rw [Nat.pow_add, Nat.pow_add, Nat.pow_one, ← Nat.div_div_eq_div_mul, ← Nat.div_div_eq_div_mul]
    rw [td_g_eq, td_g_eq, e, e, td_s_div hB, Nat.add_comm, Nat.add_mul_div_right _ _ hB, Nat.div_eq_of_lt hv, Nat.zero_add]
/-! the picture of an array -/
def td_A (B N x : Nat) (a : Nat → Int32) : Prop := ∀ i, i < N → a i = nI (td_g B x i)
theorem td_As {B N x : Nat} {a : Nat → Int32} {i v : Nat} {y : Int32} (h : td_A B N x a) (hy : y = nI v) (hv : v < B) : td_A B N (td_s B x i v) (upd a i y) := by
  intro j hj
  have hB : 0 < B := by omega
  by_cases e : j = i
  · rw [e, pk_us, td_gs hB _ _ hv, hy]
  · rw [pk_un e, td_gn hB _ e hv]
    exact h j hj
theorem td_b8 : ∀ v, v < 128 → (nI v).toInt8.toInt32 = nI v := by decide +kernel
/-- penalties are kept with 2048 added -/
def td_p (p : Nat) : Int32 := nI p - nI 2048
def td_P (n pn : Nat) (a : Nat → Int32) : Prop := ∀ i, i < n → a i = td_p (td_g 4096 pn i)
theorem td_Ps {n pn : Nat} {a : Nat → Int32} {i v : Nat} {y : Int32} (h : td_P n pn a) (hy : y = td_p v) (hv : v < 4096) : td_P n (td_s 4096 pn i v) (upd a i y) := by
  intro j hj
  by_cases e : j = i
  · rw [e, pk_us, td_gs (by omega) _ _ hv, hy]
  · rw [pk_un e, td_gn (by omega) _ e hv]
    exact h j hj
/-- lengths: all d -/
def td_L (d : Nat) (a : Nat → Int32) : Prop := ∀ i, i < 49 → a i = nI d
/-- a link's weight, its two penalties (with the added 2048 each) m in all -/
def td_c (d m : Nat) : Int32 := nI m + (nI d - nI 4096)
/-- the tree's cost: c links, T the sum of penalties (with what is added) -/
def td_t (d c T : Nat) : Int32 := nI c * (nI d - nI 4096) + nI T
theorem td_cw (d p q : Nat) : nI d + td_p p + td_p q = td_c d (p + q) := by
  unfold td_p td_c
  rw [← nI_add p q, show nI 4096 = nI 2048 + nI 2048 from rfl]
  generalize nI d = x
  generalize nI p = y
  generalize nI q = z
  generalize nI 2048 = w
  grind
theorem td_c_eq (d m : Nat) : td_c d m = nI (m + d) - nI 4096 := by
  unfold td_c
  rw [← nI_add]
  generalize nI 4096 = w
  generalize nI d = x
  generalize nI m = y
  grind
theorem td_c_toInt {d m : Nat} (hd : d ≤ 99) (hm : m < 100000) : (td_c d m).toInt = (m : Int) + d - 4096 := by
  rw [td_c_eq, pk_sub_toInt (by omega) (by omega)]
  omega
theorem td_c_le {d m k : Nat} (hd : d ≤ 99) (hm : m < 100000) (hk : k < 100000) : td_c d m ≤ td_c d k ↔ m ≤ k := by
  rw [Int32.le_iff_toInt_le, td_c_toInt hd hm, td_c_toInt hd hk]
  omega
theorem td_t0 (d : Nat) : td_t d 0 0 = 0 := by
  unfold td_t
  rw [nI_0]
  generalize nI d - nI 4096 = w
  grind
theorem td_tw (d c T w : Nat) : td_t d c T + td_c d w = td_t d (c + 1) (T + w) := by
  unfold td_t td_c
  rw [← nI_add T w, ← nI_1 c]
  generalize nI d - nI 4096 = x
  generalize nI c = y
  generalize nI T = z
  generalize nI w = v
  grind
/-- what stands behind 'least': 0: no tour known, else n * d -/
theorem td_bd (d n T S : Nat) : td_t d n T - 2 * (nI S - nI (2048 * n)) = nI (n * d + T) - nI (2 * S) := by
  unfold td_t
  rw [← nI_add, ← pk_mul, ← pk_mul, ← pk_mul, show nI 4096 = nI 2 * nI 2048 from rfl, show (2 : Int32) = nI 2 from rfl]
  generalize nI 2 = t
  generalize nI 2048 = w
  generalize nI n = x
  generalize nI d = y
  generalize nI T = z
  generalize nI S = v
  grind
theorem td_ix (a b : Nat) : nI a * 7 + nI b = nI (a * 7 + b) := by
  rw [show (7 : Int32) = nI 7 from rfl, pk_mul, nI_add]
/-- a link or none, one higher -/
def td_n (e : Nat) : Int32 := nI e - 1
theorem td_n0 : td_n 0 = -1 := by decide
theorem td_ns (e : Nat) : td_n (e + 1) = nI e := nI_pred e
theorem td_n_neg : td_n 0 < 0 := by decide
theorem td_n_neg' : ¬ 0 ≤ td_n 0 := by decide
end
section
/-! the model: pure functions over Nat, made for the kernel -/
/-- k at x, x computed first -/
noncomputable def td_f {α : Type} (x : Nat) (k : Nat → α) : α := Nat.rec (motive := fun _ => α) (k 0) (fun m _ => k (Nat.succ m)) x
theorem td_f_eq {α : Type} (x : Nat) (k : Nat → α) : td_f x k = k x := by cases x <;> rfl
/-- if a = b then x else y -/
noncomputable def td_e {α : Type} (a b : Nat) (x y : α) : α := Bool.rec (motive := fun _ => α) y x (Nat.beq a b)
/-- if a ≤ b then x else y -/
noncomputable def td_l {α : Type} (a b : Nat) (x y : α) : α := Bool.rec (motive := fun _ => α) y x (Nat.ble a b)
theorem td_e_t {α : Type} {a b : Nat} {x y : α} (h : a = b) : td_e a b x y = x := by
  unfold td_e
  rw [show Nat.beq a b = true from by rw [Nat.beq_eq]; exact h]
theorem td_e_f {α : Type} {a b : Nat} {x y : α} (h : ¬ a = b) : td_e a b x y = y := by
  unfold td_e
  rw [show Nat.beq a b = false from by
    cases e : Nat.beq a b
    · rfl
    · rw [Nat.beq_eq] at e; exact absurd e h]
theorem td_l_t {α : Type} {a b : Nat} {x y : α} (h : a ≤ b) : td_l a b x y = x := by
  unfold td_l
  rw [show Nat.ble a b = true from by rw [Nat.ble_eq]; exact h]
theorem td_l_f {α : Type} {a b : Nat} {x y : α} (h : ¬ a ≤ b) : td_l a b x y = y := by
  unfold td_l
  rw [show Nat.ble a b = false from by
    cases e : Nat.ble a b
    · rfl
    · rw [Nat.ble_eq] at e; exact absurd e h]
/-- the tree's state: groups, degrees, chosen, T, number of links -/
abbrev td_S : Type := Nat × Nat × Nat × Nat × Nat
noncomputable def td_k1 (f : Nat → Nat → Nat → Nat → Nat → Option (Option td_S)) : Option (Option td_S) → Option (Option td_S)
  | none => none
  | some none => some none
  | some (some (g, dg, ch, T, c)) => f g dg ch T c
noncomputable def td_k2 {β : Type} (f : Nat → Nat → Nat → Nat → Nat → Option β) : Option td_S → Option β
  | none => none
  | some (g, dg, ch, T, c) => f g dg ch T c
/-- merge: k cities from c on -/
noncomputable def td_mg (keep lose : Nat) : Nat → Nat → Nat → Nat
  | 0 => fun _ g => g
  | k + 1 => fun c g => td_e (td_g 8 g c) lose (td_f (td_s 8 g c keep) fun g' => td_mg keep lose k (Nat.succ c) g') (td_mg keep lose k (Nat.succ c) g)
noncomputable def td_tk (n pn a b g dg ch T c : Nat) : Option td_S :=
  td_l (td_g 16 dg a) 13 (td_f (td_s 16 dg a (Nat.succ (td_g 16 dg a))) fun d1 =>
    td_l (td_g 16 d1 b) 13 (td_f (td_s 16 d1 b (Nat.succ (td_g 16 d1 b))) fun d2 =>
      td_f (td_s 2 (td_s 2 ch (Nat.add (Nat.mul a 7) b) 1) (Nat.add (Nat.mul b 7) a) 1) fun c2 =>
      td_f (Nat.add T (Nat.add (td_g 4096 pn a) (td_g 4096 pn b))) fun T2 =>
      td_f (Nat.succ c) fun n2 =>
      td_e a 0 (some (g, d2, c2, T2, n2))
        (td_e b 0 (some (g, d2, c2, T2, n2))
          (td_f (td_g 8 g a) fun ka => td_f (td_g 8 g b) fun kb => td_f (td_mg ka kb n 0 g) fun g2 => some (g2, d2, c2, T2, n2)))) none) none
noncomputable def td_wr : Option td_S → Option (Option td_S)
  | none => none
  | some s => some (some s)
noncomputable def td_t1 (n pn a b g dg ch T c : Nat) : Option (Option td_S) :=
  td_l 2 (td_g 16 dg a) (some none)
    (td_l 2 (td_g 16 dg b) (some none)
      (td_e a 0 (td_wr (td_tk n pn a b g dg ch T c))
        (td_e (td_g 8 g a) (td_g 8 g b) (some none) (td_wr (td_tk n pn a b g dg ch T c)))))
/-- takeRequired, the inner loop and the outer one -/
noncomputable def td_ri (n pn nw a : Nat) : Nat → Nat → Nat → Nat → Nat → Nat → Nat → Option (Option td_S)
  | 0 => fun _ g dg ch T c => some (some (g, dg, ch, T, c))
  | k + 1 => fun b g dg ch T c => td_e (td_g 4 nw (Nat.add (Nat.mul a 7) b)) 1
      (td_k1 (fun g2 d2 c2 T2 n2 => td_ri n pn nw a k (Nat.succ b) g2 d2 c2 T2 n2) (td_t1 n pn a b g dg ch T c))
      (td_ri n pn nw a k (Nat.succ b) g dg ch T c)
noncomputable def td_ro (n pn nw : Nat) : Nat → Nat → Nat → Nat → Nat → Nat → Nat → Option (Option td_S)
  | 0 => fun _ g dg ch T c => some (some (g, dg, ch, T, c))
  | k + 1 => fun a g dg ch T c =>
      td_k1 (fun g2 d2 c2 T2 n2 => td_ro n pn nw k (Nat.succ a) g2 d2 c2 T2 n2) (td_ri n pn nw a k (Nat.succ a) g dg ch T c)
/-- cheapestJoin -/
noncomputable def td_ji (nw pn g a : Nat) : Nat → Nat → Nat → Nat → Nat × Nat
  | 0 => fun _ best cost => (best, cost)
  | k + 1 => fun b best cost =>
      td_f (Nat.add (Nat.mul a 7) b) fun ix =>
      td_e (td_g 4 nw ix) 0
        (td_e (td_g 8 g a) (td_g 8 g b)
          (td_ji nw pn g a k (Nat.succ b) best cost)
          (td_f (Nat.add (td_g 4096 pn a) (td_g 4096 pn b)) fun w =>
            td_e best 0 (td_ji nw pn g a k (Nat.succ b) (Nat.succ ix) w)
              (td_l cost w (td_ji nw pn g a k (Nat.succ b) best cost)
                (td_ji nw pn g a k (Nat.succ b) (Nat.succ ix) w))))
        (td_ji nw pn g a k (Nat.succ b) best cost)
noncomputable def td_jo (nw pn g : Nat) : Nat → Nat → Nat → Nat → Nat
  | 0 => fun _ best _ => best
  | k + 1 => fun a best cost =>
      match td_ji nw pn g a k (Nat.succ a) best cost with
        | (best', cost') => td_jo nw pn g k (Nat.succ a) best' cost'
/-- growTree, ahead of joined -/
noncomputable def td_gr (n pn nw : Nat) : Nat → Nat → Nat → Nat → Nat → Nat → Option td_S
  | 0 => fun g dg ch T c => some (g, dg, ch, T, c)
  | k + 1 => fun g dg ch T c =>
      td_f (td_jo nw pn g (Nat.sub n 1) 1 0 0) fun l =>
      td_e l 0 (some (g, dg, ch, T, c))
        (td_f (Nat.div (Nat.sub l 1) 7) fun x => td_f (Nat.mod (Nat.sub l 1) 7) fun y =>
          td_k2 (fun g2 d2 c2 T2 n2 => td_gr n pn nw k g2 d2 c2 T2 n2) (td_tk n pn x y g dg ch T c))
noncomputable def td_jn (g : Nat) : Nat → Nat → Nat
  | 0 => fun _ => 1
  | k + 1 => fun a => td_e (td_g 8 g a) (td_g 8 g 1) (td_jn g k (Nat.succ a)) 0
/-- closeAtZero -/
noncomputable def td_zi (nw pn ch : Nat) : Nat → Nat → Nat → Nat → Nat
  | 0 => fun _ best _ => best
  | k + 1 => fun b best cost =>
      td_e (td_g 4 nw b) 0
        (td_e (td_g 2 ch b) 0
          (td_f (Nat.add (td_g 4096 pn 0) (td_g 4096 pn b)) fun w =>
            td_e best 0 (td_zi nw pn ch k (Nat.succ b) (Nat.succ b) w)
              (td_l cost w (td_zi nw pn ch k (Nat.succ b) best cost)
                (td_zi nw pn ch k (Nat.succ b) (Nat.succ b) w)))
          (td_zi nw pn ch k (Nat.succ b) best cost))
        (td_zi nw pn ch k (Nat.succ b) best cost)
noncomputable def td_ze (g dg ch T c : Nat) : Option (Option td_S) := td_e (td_g 16 dg 0) 2 (some (some (g, dg, ch, T, c))) (some none)
noncomputable def td_zo (n pn nw : Nat) : Nat → Nat → Nat → Nat → Nat → Nat → Option (Option td_S)
  | 0 => fun g dg ch T c => td_ze g dg ch T c
  | k + 1 => fun g dg ch T c =>
      td_l 2 (td_g 16 dg 0) (td_ze g dg ch T c)
        (td_f (td_zi nw pn ch (Nat.sub n 1) 1 0 0) fun l =>
          td_e l 0 (some none)
            (td_f (Nat.sub l 1) fun y => td_k2 (fun g2 d2 c2 T2 n2 => td_zo n pn nw k g2 d2 c2 T2 n2) (td_tk n pn 0 y g dg ch T c)))
noncomputable def td_bu (n pn nw : Nat) : Option (Option td_S) :=
  td_k1 (fun g dg ch T c =>
    td_k2 (fun g dg ch T c => td_e (td_jn g (Nat.sub n 2) 2) 0 (some none) (td_zo n pn nw 2 g dg ch T c))
      (td_gr n pn nw (Nat.sub n 1) g dg ch T c)) (td_ro n pn nw n 0 1754760 0 0 0 0)
/-- the sum of the penalties -/
noncomputable def td_sp (pn : Nat) : Nat → Nat → Nat → Nat
  | 0 => fun _ s => s
  | k + 1 => fun a s => td_f (Nat.add s (td_g 4096 pn a)) fun s' => td_sp pn k (Nat.succ a) s'
noncomputable def td_it (dg : Nat) : Nat → Nat → Nat
  | 0 => fun _ => 1
  | k + 1 => fun a => td_e (td_g 16 dg a) 2 (td_it dg k (Nat.succ a)) 0
noncomputable def td_bn (dg st : Nat) : Nat → Nat → Nat → Option Nat
  | 0 => fun _ pn => some pn
  | k + 1 => fun a pn =>
      td_f (Nat.add (td_g 4096 pn a) (Nat.mul st (td_g 16 dg a))) fun u =>
      td_l (Nat.mul 2 st) u
        (td_f (Nat.sub u (Nat.mul 2 st)) fun v =>
          td_l v 4095 (td_f (td_s 4096 pn a v) fun pn' => td_bn dg st k (Nat.succ a) pn') none) none
/-- linkToBranch: 0 none, else the link and one -/
noncomputable def td_li (nw dg ch a : Nat) : Nat → Nat → Nat
  | 0 => fun _ => 0
  | k + 1 => fun b =>
      td_l (td_g 16 dg a) 2 (td_li nw dg ch a k (Nat.succ b))
        (td_e (td_g 2 ch (Nat.add (Nat.mul a 7) b)) 0 (td_li nw dg ch a k (Nat.succ b))
          (td_e (td_g 4 nw (Nat.add (Nat.mul a 7) b)) 0 (Nat.succ (Nat.add (Nat.mul a 7) b)) (td_li nw dg ch a k (Nat.succ b))))
noncomputable def td_lo (n nw dg ch : Nat) : Nat → Nat → Nat
  | 0 => fun _ => 0
  | k + 1 => fun a => td_f (td_li nw dg ch a n 0) fun l => td_e l 0 (td_lo n nw dg ch k (Nat.succ a)) l
noncomputable def td_k3 {β : Type} (f0 : Option β) (f : Nat → Nat → Nat → Nat → Nat → Option β) : Option (Option td_S) → Option β
  | none => none
  | some none => f0
  | some (some (g, dg, ch, T, c)) => f g dg ch T c
noncomputable def td_k4 {α β : Type} (f : α → Option β) : Option α → Option β
  | none => none
  | some x => f x
/-- examine: k rounds left; (link and one or 0, tour known) -/
noncomputable def td_el (n nw fnd : Nat) : Nat → Nat → Nat → Option (Nat × Nat)
  | 0 => fun _ _ => none
  | k + 1 => fun st pn =>
      td_k3 (some (0, fnd)) (fun _ dg ch T c =>
          td_e c n
            (td_f (Nat.mul 2 (td_sp pn n 0 0)) fun S2 =>
              td_l T (Nat.add S2 900000)
                (td_e fnd 0
                  (td_e (td_it dg n 0) 0
                    (td_e k 0 (td_f (td_lo n nw dg ch n 0) fun l => some (l, 0))
                      (td_k4 (fun pn' => td_f (td_l st 2 1 (Nat.sub st (Nat.div st 4))) fun st' => td_el n nw fnd k st' pn') (td_bn dg st n 0 pn)))
                    (td_e T S2 (some (0, 1)) none))
                  (td_l S2 T (some (0, fnd)) none))
                none)
            none) (td_bu n pn nw)
noncomputable def td_dc (nw a b r : Nat) : Nat := td_s 4 (td_s 4 nw (Nat.add (Nat.mul a 7) b) r) (Nat.add (Nat.mul b 7) a) r
/-- backUp from a level: (0 or the new level, rules, branchBoth) -/
noncomputable def td_bk (bl bb : Nat) : Nat → Nat → Option (Nat × Nat × Nat)
  | 0 => fun nw => some (0, nw, bb)
  | t + 1 => fun nw =>
      td_f (td_g 64 bl t) fun l =>
      td_l l 48
        (td_e (td_g 2 bb t) 0
          (td_f (td_s 2 bb t 1) fun bb' => td_f (td_dc nw (Nat.div l 7) (Nat.mod l 7) 1) fun nw' => some (Nat.succ t, nw', bb'))
          (td_f (td_dc nw (Nat.div l 7) (Nat.mod l 7) 0) fun nw' => td_bk bl bb t nw'))
        none
noncomputable def td_k5 {β : Type} (f : Nat → Nat → Nat → Option β) : Option (Nat × Nat × Nat) → Option β
  | none => none
  | some (x, y, z) => f x y z
noncomputable def td_k6 {β : Type} (f : Nat → Nat → Option β) : Option (Nat × Nat) → Option β
  | none => none
  | some (x, y) => f x y
/-- one node: (level and one, or 0 at the end; rules; branchLink; branchBoth; tour known) -/
noncomputable def td_nd (n level nw bl bb fnd : Nat) : Option td_S :=
  td_k6 (fun l f' =>
      td_e l 0
        (td_k5 (fun lv nw' bb' => td_e lv 0 (some (0, nw', bl, bb', f')) (some (Nat.succ lv, nw', bl, bb', f'))) (td_bk bl bb level nw))
        (td_l 24 level none (td_l l 49
          (td_f (td_s 64 bl level (Nat.sub l 1)) fun bl' => td_f (td_s 2 bb level 0) fun bb' =>
            td_f (td_dc nw (Nat.div (Nat.sub l 1) 7) (Nat.mod (Nat.sub l 1) 7) 2) fun nw' =>
            td_f (Nat.succ (Nat.succ level)) fun lv => some (lv, nw', bl', bb', f')) none)))
    (td_el n nw fnd 24 32 9673768316759992380164096)
/-- at most k nodes -/
noncomputable def td_sv (n : Nat) : Nat → Nat → Nat → Nat → Nat → Nat → Option td_S
  | 0 => fun lv nw bl bb fnd => some (lv, nw, bl, bb, fnd)
  | k + 1 => fun lv nw bl bb fnd =>
      td_e lv 0 (some (lv, nw, bl, bb, fnd))
        (td_f (Nat.sub lv 1) fun level => td_k2 (fun lv' nw' bl' bb' f' => td_sv n k lv' nw' bl' bb' f') (td_nd n level nw bl bb fnd))
/-- the path 0 - 1 - .. - k required -/
noncomputable def td_pk : Nat → Nat
  | 0 => 0
  | k + 1 => td_dc (td_pk k) k (Nat.succ k) 1
end
section
/-! the model's equations, read plainly -/
theorem td_mg_s (keep lose k c g : Nat) : td_mg keep lose (k + 1) c g = td_e (td_g 8 g c) lose (td_mg keep lose k (c + 1) (td_s 8 g c keep)) (td_mg keep lose k (c + 1) g) := by
  rw [show td_mg keep lose (k + 1) c g = td_e (td_g 8 g c) lose (td_f (td_s 8 g c keep) fun g' => td_mg keep lose k (c + 1) g') (td_mg keep lose k (c + 1) g) from rfl, td_f_eq]
theorem td_tk_eq (n pn a b g dg ch T c : Nat) : td_tk n pn a b g dg ch T c =
    td_l (td_g 16 dg a) 13 (td_l (td_g 16 (td_s 16 dg a (td_g 16 dg a + 1)) b) 13
      (td_e a 0 (some (g, td_s 16 (td_s 16 dg a (td_g 16 dg a + 1)) b (td_g 16 (td_s 16 dg a (td_g 16 dg a + 1)) b + 1), td_s 2 (td_s 2 ch (a * 7 + b) 1) (b * 7 + a) 1, T + (td_g 4096 pn a + td_g 4096 pn b), c + 1))
        (td_e b 0 (some (g, td_s 16 (td_s 16 dg a (td_g 16 dg a + 1)) b (td_g 16 (td_s 16 dg a (td_g 16 dg a + 1)) b + 1), td_s 2 (td_s 2 ch (a * 7 + b) 1) (b * 7 + a) 1, T + (td_g 4096 pn a + td_g 4096 pn b), c + 1))
          (some (td_mg (td_g 8 g a) (td_g 8 g b) n 0 g, td_s 16 (td_s 16 dg a (td_g 16 dg a + 1)) b (td_g 16 (td_s 16 dg a (td_g 16 dg a + 1)) b + 1), td_s 2 (td_s 2 ch (a * 7 + b) 1) (b * 7 + a) 1, T + (td_g 4096 pn a + td_g 4096 pn b), c + 1)))) none) none := by
  unfold td_tk
  simp only [td_f_eq]
  rfl
theorem td_ri_s (n pn nw a k b g dg ch T c : Nat) : td_ri n pn nw a (k + 1) b g dg ch T c = td_e (td_g 4 nw (a * 7 + b)) 1
      (td_k1 (fun g2 d2 c2 T2 n2 => td_ri n pn nw a k (b + 1) g2 d2 c2 T2 n2) (td_t1 n pn a b g dg ch T c))
      (td_ri n pn nw a k (b + 1) g dg ch T c) := rfl
theorem td_ro_s (n pn nw k a g dg ch T c : Nat) : td_ro n pn nw (k + 1) a g dg ch T c =
      td_k1 (fun g2 d2 c2 T2 n2 => td_ro n pn nw k (a + 1) g2 d2 c2 T2 n2) (td_ri n pn nw a k (a + 1) g dg ch T c) := rfl
theorem td_ji_s (nw pn g a k b best cost : Nat) : td_ji nw pn g a (k + 1) b best cost =
      td_e (td_g 4 nw (a * 7 + b)) 0
        (td_e (td_g 8 g a) (td_g 8 g b)
          (td_ji nw pn g a k (b + 1) best cost)
          (td_e best 0 (td_ji nw pn g a k (b + 1) (a * 7 + b + 1) (td_g 4096 pn a + td_g 4096 pn b))
              (td_l cost (td_g 4096 pn a + td_g 4096 pn b) (td_ji nw pn g a k (b + 1) best cost)
                (td_ji nw pn g a k (b + 1) (a * 7 + b + 1) (td_g 4096 pn a + td_g 4096 pn b)))))
        (td_ji nw pn g a k (b + 1) best cost) := by
  conv => lhs; unfold td_ji
  simp only [td_f_eq]
  rfl
theorem td_jo_s (nw pn g k a best cost : Nat) : td_jo nw pn g (k + 1) a best cost =
      td_jo nw pn g k (a + 1) (td_ji nw pn g a k (a + 1) best cost).1 (td_ji nw pn g a k (a + 1) best cost).2 := rfl
theorem td_gr_s (n pn nw k g dg ch T c : Nat) : td_gr n pn nw (k + 1) g dg ch T c =
      td_e (td_jo nw pn g (n - 1) 1 0 0) 0 (some (g, dg, ch, T, c))
        (td_k2 (fun g2 d2 c2 T2 n2 => td_gr n pn nw k g2 d2 c2 T2 n2) (td_tk n pn ((td_jo nw pn g (n - 1) 1 0 0 - 1) / 7) ((td_jo nw pn g (n - 1) 1 0 0 - 1) % 7) g dg ch T c)) := by
  conv => lhs; unfold td_gr
  simp only [td_f_eq]
  rfl
theorem td_jn_s (g k a : Nat) : td_jn g (k + 1) a = td_e (td_g 8 g a) (td_g 8 g 1) (td_jn g k (a + 1)) 0 := rfl
theorem td_zi_s (nw pn ch k b best cost : Nat) : td_zi nw pn ch (k + 1) b best cost =
      td_e (td_g 4 nw b) 0
        (td_e (td_g 2 ch b) 0
          (td_e best 0 (td_zi nw pn ch k (b + 1) (b + 1) (td_g 4096 pn 0 + td_g 4096 pn b))
              (td_l cost (td_g 4096 pn 0 + td_g 4096 pn b) (td_zi nw pn ch k (b + 1) best cost)
                (td_zi nw pn ch k (b + 1) (b + 1) (td_g 4096 pn 0 + td_g 4096 pn b))))
          (td_zi nw pn ch k (b + 1) best cost))
        (td_zi nw pn ch k (b + 1) best cost) := by
  conv => lhs; unfold td_zi
  simp only [td_f_eq]
  rfl
theorem td_zo_s (n pn nw k g dg ch T c : Nat) : td_zo n pn nw (k + 1) g dg ch T c =
      td_l 2 (td_g 16 dg 0) (td_ze g dg ch T c)
        (td_e (td_zi nw pn ch (n - 1) 1 0 0) 0 (some none)
            (td_k2 (fun g2 d2 c2 T2 n2 => td_zo n pn nw k g2 d2 c2 T2 n2) (td_tk n pn 0 (td_zi nw pn ch (n - 1) 1 0 0 - 1) g dg ch T c))) := by
  conv => lhs; unfold td_zo
  simp only [td_f_eq]
  rfl
theorem td_sp_s (pn k a s : Nat) : td_sp pn (k + 1) a s = td_sp pn k (a + 1) (s + td_g 4096 pn a) := by
  conv => lhs; unfold td_sp
  simp only [td_f_eq]
  rfl
theorem td_it_s (dg k a : Nat) : td_it dg (k + 1) a = td_e (td_g 16 dg a) 2 (td_it dg k (a + 1)) 0 := rfl
theorem td_bn_s (dg st k a pn : Nat) : td_bn dg st (k + 1) a pn =
      td_l (2 * st) (td_g 4096 pn a + st * td_g 16 dg a)
        (td_l (td_g 4096 pn a + st * td_g 16 dg a - 2 * st) 4095 (td_bn dg st k (a + 1) (td_s 4096 pn a (td_g 4096 pn a + st * td_g 16 dg a - 2 * st))) none) none := by
  conv => lhs; unfold td_bn
  simp only [td_f_eq]
  rfl
theorem td_li_s (nw dg ch a k b : Nat) : td_li nw dg ch a (k + 1) b =
      td_l (td_g 16 dg a) 2 (td_li nw dg ch a k (b + 1))
        (td_e (td_g 2 ch (a * 7 + b)) 0 (td_li nw dg ch a k (b + 1))
          (td_e (td_g 4 nw (a * 7 + b)) 0 (a * 7 + b + 1) (td_li nw dg ch a k (b + 1)))) := rfl
theorem td_lo_s (n nw dg ch k a : Nat) : td_lo n nw dg ch (k + 1) a = td_e (td_li nw dg ch a n 0) 0 (td_lo n nw dg ch k (a + 1)) (td_li nw dg ch a n 0) := by
  conv => lhs; unfold td_lo
  simp only [td_f_eq]
theorem td_el_s (n nw fnd k st pn : Nat) : td_el n nw fnd (k + 1) st pn =
      td_k3 (some (0, fnd)) (fun _ dg ch T c =>
          td_e c n
            (td_l T (2 * td_sp pn n 0 0 + 900000)
                (td_e fnd 0
                  (td_e (td_it dg n 0) 0
                    (td_e k 0 (some (td_lo n nw dg ch n 0, 0))
                      (td_k4 (fun pn' => td_el n nw fnd k (td_l st 2 1 (st - st / 4)) pn') (td_bn dg st n 0 pn)))
                    (td_e T (2 * td_sp pn n 0 0) (some (0, 1)) none))
                  (td_l (2 * td_sp pn n 0 0) T (some (0, fnd)) none))
                none)
            none) (td_bu n pn nw) := by
  conv => lhs; unfold td_el
  simp only [td_f_eq]
  rfl
theorem td_dc_eq (nw a b r : Nat) : td_dc nw a b r = td_s 4 (td_s 4 nw (a * 7 + b) r) (b * 7 + a) r := rfl
theorem td_bk_s (bl bb t nw : Nat) : td_bk bl bb (t + 1) nw =
      td_l (td_g 64 bl t) 48
        (td_e (td_g 2 bb t) 0
          (some (t + 1, td_dc nw (td_g 64 bl t / 7) (td_g 64 bl t % 7) 1, td_s 2 bb t 1))
          (td_bk bl bb t (td_dc nw (td_g 64 bl t / 7) (td_g 64 bl t % 7) 0)))
        none := by
  conv => lhs; unfold td_bk
  simp only [td_f_eq]
  rfl
theorem td_nd_eq (n level nw bl bb fnd : Nat) : td_nd n level nw bl bb fnd =
  td_k6 (fun l f' =>
      td_e l 0
        (td_k5 (fun lv nw' bb' => td_e lv 0 (some (0, nw', bl, bb', f')) (some (lv + 1, nw', bl, bb', f'))) (td_bk bl bb level nw))
        (td_l 24 level none (td_l l 49
          (some (level + 2, td_dc nw ((l - 1) / 7) ((l - 1) % 7) 2, td_s 64 bl level (l - 1), td_s 2 bb level 0, f')) none)))
    (td_el n nw fnd 24 32 9673768316759992380164096) := by
  unfold td_nd
  simp only [td_f_eq]
  rfl
theorem td_sv_s (n k lv nw bl bb fnd : Nat) : td_sv n (k + 1) lv nw bl bb fnd =
      td_e lv 0 (some (lv, nw, bl, bb, fnd))
        (td_k2 (fun lv' nw' bl' bb' f' => td_sv n k lv' nw' bl' bb' f') (td_nd n (lv - 1) nw bl bb fnd)) := by
  conv => lhs; unfold td_sv
  simp only [td_f_eq]
  rfl
/-! small helpers -/
theorem td_gb {B : Nat} (hB : 0 < B) (h2 : B ≤ 4096) (x i : Nat) : td_g B x i < 2 ^ 31 := by
  have := td_g_lt hB x i
  omega
/-- the tree's state holds g dg ch T c -/
def td_R (n d g dg ch T c : Nat) (tc : Int32) (a5 a6 a7 : Nat → Int32) : Prop := td_A 8 n g a5 ∧ td_A 16 n dg a6 ∧ td_A 2 49 ch a7 ∧ tc = td_t d c T
end
section
/-! the model evaluated by the kernel -/
noncomputable def td_oe (p : Nat) : Option td_S → Nat
  | none => 0
  | some (lv, nw, _, _, f) => td_e lv 0 (td_e nw p (td_e f 1 1 0) 0) 0
noncomputable def td_ok (n k : Nat) : Nat := td_f (td_pk k) fun p => td_oe p (td_sv n 450 1 p 0 0 0)
theorem td_oe_1 {p : Nat} {x : Option td_S} (h : td_oe p x = 1) : ∃ bl bb, x = some (0, p, bl, bb, 1) := by
  cases x with
  | none => exact absurd (show (0 : Nat) = 1 from h) (by decide)
  | some s =>
    obtain ⟨lv, nw, bl, bb, f⟩ := s
    have h' : td_e lv 0 (td_e nw p (td_e f 1 1 0) 0) 0 = 1 := h
    by_cases e1 : lv = 0
    · rw [td_e_t e1] at h'
      by_cases e2 : nw = p
      · rw [td_e_t e2] at h'
        by_cases e3 : f = 1
        · subst e1 e2 e3
          exact ⟨bl, bb, rfl⟩
        · rw [td_e_f e3] at h'
          exact absurd h' (by decide)
      · rw [td_e_f e2] at h'
        exact absurd h' (by decide)
    · rw [td_e_f e1] at h'
      exact absurd h' (by decide)
theorem td_ok_1 {n k : Nat} (h : td_ok n k = 1) : ∃ bl bb, td_sv n 450 1 (td_pk k) 0 0 0 = some (0, td_pk k, bl, bb, 1) := by
  unfold td_ok at h
  rw [td_f_eq] at h
  exact td_oe_1 h
theorem td_sv_z (n nw bl bb f : Nat) : ∀ k, td_sv n k 0 nw bl bb f = some (0, nw, bl, bb, f) := by
  intro k
  cases k with
  | zero => rfl
  | succ k => rw [td_sv_s, td_e_t rfl]
theorem td_sv_seq (n k : Nat) {lv2 nw2 bl2 bb2 f2 : Nat} {s : Option td_S} (h2 : td_sv n k lv2 nw2 bl2 bb2 f2 = s) : ∀ j lv nw bl bb f, td_sv n j lv nw bl bb f = some (lv2, nw2, bl2, bb2, f2) → td_sv n (j + k) lv nw bl bb f = s := by
  intro j
  induction j with
  | zero =>
    intro lv nw bl bb f h
    have h' : some (lv, nw, bl, bb, f) = some (lv2, nw2, bl2, bb2, f2) := h
    cases h'
    rw [Nat.zero_add]
    exact h2
  | succ j ih =>
    intro lv nw bl bb f h
    rw [show j + 1 + k = j + k + 1 by omega, td_sv_s]
    rw [td_sv_s] at h
    by_cases e : lv = 0
    · rw [td_e_t e] at h
      rw [td_e_t e]
      cases h
      subst e
      rw [td_sv_z] at h2
      exact h2
    · rw [td_e_f e] at h
      rw [td_e_f e]
      cases ht : td_nd n (lv - 1) nw bl bb f with
      | none =>
        rw [ht] at h
        exact absurd h.symm (Option.some_ne_none _)
      | some w =>
        rw [ht] at h
        obtain ⟨lv3, nw3, bl3, bb3, f3⟩ := w
        exact ih lv3 nw3 bl3 bb3 f3 h
theorem td_ok_3_0 : td_ok 3 0 = 1 := by decide +kernel
theorem td_ok_3_1 : td_ok 3 1 = 1 := by decide +kernel
theorem td_ok_3_2 : td_ok 3 2 = 1 := by decide +kernel
theorem td_ok_4_0 : td_ok 4 0 = 1 := by decide +kernel
theorem td_ok_4_1 : td_ok 4 1 = 1 := by decide +kernel
theorem td_ok_4_2 : td_ok 4 2 = 1 := by decide +kernel
theorem td_ok_4_3 : td_ok 4 3 = 1 := by decide +kernel
theorem td_ok_5_0 : td_ok 5 0 = 1 := by decide +kernel
theorem td_ok_5_1 : td_ok 5 1 = 1 := by decide +kernel
theorem td_ok_5_2 : td_ok 5 2 = 1 := by decide +kernel
theorem td_ok_5_3 : td_ok 5 3 = 1 := by decide +kernel
theorem td_ok_5_4 : td_ok 5 4 = 1 := by decide +kernel
theorem td_ok_6_0 : td_ok 6 0 = 1 := by decide +kernel
theorem td_ok_6_1 : td_ok 6 1 = 1 := by decide +kernel
theorem td_ok_6_2 : td_ok 6 2 = 1 := by decide +kernel
theorem td_ok_6_3 : td_ok 6 3 = 1 := by decide +kernel
theorem td_ok_6_4 : td_ok 6 4 = 1 := by decide +kernel
theorem td_ok_6_5 : td_ok 6 5 = 1 := by decide +kernel
theorem td_ok_7_1 : td_ok 7 1 = 1 := by decide +kernel
theorem td_ok_7_2 : td_ok 7 2 = 1 := by decide +kernel
theorem td_ok_7_3 : td_ok 7 3 = 1 := by decide +kernel
theorem td_ok_7_4 : td_ok 7 4 = 1 := by decide +kernel
theorem td_ok_7_5 : td_ok 7 5 = 1 := by decide +kernel
theorem td_ok_7_6 : td_ok 7 6 = 1 := by decide +kernel
theorem td_p_0 : td_sv 7 12 1 0 0 0 0 = some (12, 174286018609080293409724584, 50343020397102921934, 512, 0) := by decide +kernel
theorem td_p_1 : td_sv 7 12 12 174286018609080293409724584 50343020397102921934 512 0 = some (17, 174890634066080858049649064, 174816157645089611883979094390990, 236032, 0) := by decide +kernel
theorem td_p_2 : td_sv 7 12 17 174890634066080858049649064 174816157645089611883979094390990 236032 0 = some (15, 3191764864547340897527306920, 174808728565786500924100158978254, 247296, 0) := by decide +kernel
theorem td_p_3 : td_sv 7 12 15 3191764864547340897527306920 174808728565786500924100158978254 247296 0 = some (17, 3192369479571855126087375272, 11183334283698092610248984981698766, 484864, 0) := by decide +kernel
theorem td_p_4 : td_sv 7 12 17 3192369479571855126087375272 11183334283698092610248984981698766 484864 0 = some (13, 174815071224610683722700968, 11208370383052451360011255058299086, 521472, 0) := by decide +kernel
theorem td_p_5 : td_sv 7 12 13 174815071224610683722700968 11208370383052451360011255058299086 521472 0 = some (18, 10078335978469664744391874984, 11208754125348490305240149961767118, 439552, 0) := by decide +kernel
theorem td_p_6 : td_sv 7 12 18 10078335978469664744391874984 11208754125348490305240149961767118 439552 0 = some (19, 40340166505055554847967320488, 11152667979866197425566819313285326, 281856, 0) := by decide +kernel
theorem td_p_7 : td_sv 7 12 19 40340166505055554847967320488 11152667979866197425566819313285326 281856 0 = some (21, 52719567487088204793432807848, 568406801237794929405911561583753422, 347392, 0) := by decide +kernel
theorem td_p_8 : td_sv 7 12 21 52719567487088204793432807848 568406801237794929405911561583753422 347392 0 = some (20, 42816046582221121859378256296, 529104007431181305191544620596623566, 904448, 0) := by decide +kernel
theorem td_p_9 : td_sv 7 12 20 42816046582221121859378256296 529104007431181305191544620596623566 904448 0 = some (13, 97141513527394464342513832, 529104007426558108404815237932415182, 1048320, 0) := by decide +kernel
theorem td_p_10 : td_sv 7 12 13 97141513527394464342513832 529104007426558108404815237932415182 1048320 0 = some (20, 51481325141390008594565994920, 528202304300459169789037788663937230, 831232, 0) := by decide +kernel
theorem td_p_11 : td_sv 7 12 20 51481325141390008594565994920 528202304300459169789037788663937230 831232 0 = some (14, 193477716346879676298865000, 528202304300387228689892896897267918, 1046656, 0) := by decide +kernel
theorem td_p_12 : td_sv 7 12 14 193477716346879676298865000 528202304300387228689892896897267918 1046656 0 = some (14, 735076483246005369367472488, 528201604942237206040319008426719438, 1045632, 0) := by decide +kernel
theorem td_p_13 : td_sv 7 12 14 735076483246005369367472488 528201604942237206040319008426719438 1045632 0 = some (16, 735076484687157318849702248, 528121187061014517655875428738431182, 1045632, 0) := by decide +kernel
theorem td_p_14 : td_sv 7 12 16 735076484687157318849702248 528121187061014517655875428738431182 1045632 0 = some (21, 41287964356877056858556770664, 569334959195499534059748416176552142, 797824, 0) := by decide +kernel
theorem td_p_15 : td_sv 7 12 21 41287964356877056858556770664 569334959195499534059748416176552142 797824 0 = some (19, 45001406897527355161346353512, 569380594617107750318202297491945678, 994432, 0) := by decide +kernel
theorem td_p_16 : td_sv 7 12 19 45001406897527355161346353512 569380594617107750318202297491945678 994432 0 = some (18, 40050099864486885536792357224, 528125623837902809967051533165033678, 945280, 0) := by decide +kernel
theorem td_p_17 : td_sv 7 12 18 40050099864486885536792357224 528125623837902809967051533165033678 945280 0 = some (14, 793104922803680351938451560, 527481657332901866834399554322856142, 1045120, 0) := by decide +kernel
theorem td_p_18 : td_sv 7 12 14 793104922803680351938451560 527481657332901866834399554322856142 1045120 0 = some (15, 40107372576671420013871667304, 527481579401095065248539746971449550, 1043072, 0) := by decide +kernel
theorem td_p_19 : td_sv 7 12 15 40107372576671420013871667304 527481579401095065248539746971449550 1043072 0 = some (18, 50011195788797995670554843240, 528126257663505155536655938810312910, 961152, 0) := by decide +kernel
theorem td_p_20 : td_sv 7 12 18 50011195788797995670554843240 528126257663505155536655938810312910 961152 0 = some (19, 42583932824783120352229759080, 528130694440605954339561177271531726, 879232, 0) := by decide +kernel
theorem td_p_21 : td_sv 7 12 19 42583932824783120352229759080 528130694440605954339561177271531726 879232 0 = some (17, 40340090945962341768605767784, 527481657333289100885994865230379214, 1001088, 0) := by decide +kernel
theorem td_p_22 : td_sv 7 12 17 40340090945962341768605767784 527481657333289100885994865230379214 1001088 0 = some (20, 50243460670261397238942570600, 527477220556188302083089626769160398, 575104, 0) := by decide +kernel
theorem td_p_23 : td_sv 7 12 20 50243460670261397238942570600 527477220556188302083089626769160398 575104 0 = some (19, 42816046582149130253217863784, 528130694440605954339561177271531726, 878208, 0) := by decide +kernel
theorem td_p_24 : td_sv 7 12 19 42816046582149130253217863784 528130694440605954339561177271531726 878208 0 = some (14, 193628831795037942120491368, 527481657333199282536178468816713934, 1044864, 0) := by decide +kernel
theorem td_p_25 : td_sv 7 12 14 193628831795037942120491368 527481657333199282536178468816713934 1044864 0 = some (14, 735227598910336417307076712, 527472131442700978740191234765125838, 1042816, 0) := by decide +kernel
theorem td_p_26 : td_sv 7 12 14 735227598910336417307076712 527472131442700978740191234765125838 1042816 0 = some (19, 3211712289514095211908213096, 530413016365029899632911642883291342, 969088, 0) := by decide +kernel
theorem td_p_27 : td_sv 7 12 19 3211712289514095211908213096 530413016365029899632911642883291342 969088 0 = some (21, 49953318474778793918941669736, 385048351678462853402473815539218638, 153984, 0) := by decide +kernel
theorem td_p_28 : td_sv 7 12 21 49953318474778793918941669736 385048351678462853402473815539218638 153984 0 = some (13, 96763650993811738449188968, 385048985503762970975939077711362254, 1047424, 0) := by decide +kernel
theorem td_p_29 : td_sv 7 12 13 96763650993811738449188968 385048985503762970975939077711362254 1047424 0 = some (18, 42197152120662827420927694952, 385018559213716590307673744851630286, 936832, 0) := by decide +kernel
theorem td_p_30 : td_sv 7 12 18 42197152120662827420927694952 385018559213716590307673744851630286 936832 0 = some (15, 19543525518171106267666536, 380510793678921240492242014741493966, 1034112, 0) := by decide +kernel
theorem td_p_31 : td_sv 7 12 15 19543525518171106267666536 380510793678921240492242014741493966 1034112 0 = some (17, 20140904867184060189588887656, 385049800371077371060267382316497102, 1034112, 0) := by decide +kernel
theorem td_p_32 : td_sv 7 12 17 20140904867184060189588887656 385049800371077371060267382316497102 1034112 0 = some (17, 39721272041767807697954576488, 384983169469477913277746403408378062, 1005440, 0) := by decide +kernel
theorem td_p_33 : td_sv 7 12 17 39721272041767807697954576488 384983169469477913277746403408378062 1005440 0 = some (4, 2361183241435359496228, 384983169469477913279228545082620110, 1048572, 1) := by decide +kernel
theorem td_p_34 : td_sv 7 3 4 2361183241435359496228 384983169469477913279228545082620110 1048572 1 = some (0, 0, 384983169469477913279228545082620110, 1048575, 1) := by decide +kernel
theorem td_q_35 : td_sv 7 39 0 0 384983169469477913279228545082620110 1048575 1 = some (0, 0, 384983169469477913279228545082620110, 1048575, 1) := td_sv_z 7 0 384983169469477913279228545082620110 1048575 1 39
theorem td_q_34 : td_sv 7 42 4 2361183241435359496228 384983169469477913279228545082620110 1048572 1 = some (0, 0, 384983169469477913279228545082620110, 1048575, 1) := td_sv_seq 7 39 td_q_35 3 4 2361183241435359496228 384983169469477913279228545082620110 1048572 1 td_p_34
theorem td_q_33 : td_sv 7 54 17 39721272041767807697954576488 384983169469477913277746403408378062 1005440 0 = some (0, 0, 384983169469477913279228545082620110, 1048575, 1) := td_sv_seq 7 42 td_q_34 12 17 39721272041767807697954576488 384983169469477913277746403408378062 1005440 0 td_p_33
theorem td_q_32 : td_sv 7 66 17 20140904867184060189588887656 385049800371077371060267382316497102 1034112 0 = some (0, 0, 384983169469477913279228545082620110, 1048575, 1) := td_sv_seq 7 54 td_q_33 12 17 20140904867184060189588887656 385049800371077371060267382316497102 1034112 0 td_p_32
theorem td_q_31 : td_sv 7 78 15 19543525518171106267666536 380510793678921240492242014741493966 1034112 0 = some (0, 0, 384983169469477913279228545082620110, 1048575, 1) := td_sv_seq 7 66 td_q_32 12 15 19543525518171106267666536 380510793678921240492242014741493966 1034112 0 td_p_31
theorem td_q_30 : td_sv 7 90 18 42197152120662827420927694952 385018559213716590307673744851630286 936832 0 = some (0, 0, 384983169469477913279228545082620110, 1048575, 1) := td_sv_seq 7 78 td_q_31 12 18 42197152120662827420927694952 385018559213716590307673744851630286 936832 0 td_p_30
theorem td_q_29 : td_sv 7 102 13 96763650993811738449188968 385048985503762970975939077711362254 1047424 0 = some (0, 0, 384983169469477913279228545082620110, 1048575, 1) := td_sv_seq 7 90 td_q_30 12 13 96763650993811738449188968 385048985503762970975939077711362254 1047424 0 td_p_29
theorem td_q_28 : td_sv 7 114 21 49953318474778793918941669736 385048351678462853402473815539218638 153984 0 = some (0, 0, 384983169469477913279228545082620110, 1048575, 1) := td_sv_seq 7 102 td_q_29 12 21 49953318474778793918941669736 385048351678462853402473815539218638 153984 0 td_p_28
theorem td_q_27 : td_sv 7 126 19 3211712289514095211908213096 530413016365029899632911642883291342 969088 0 = some (0, 0, 384983169469477913279228545082620110, 1048575, 1) := td_sv_seq 7 114 td_q_28 12 19 3211712289514095211908213096 530413016365029899632911642883291342 969088 0 td_p_27
theorem td_q_26 : td_sv 7 138 14 735227598910336417307076712 527472131442700978740191234765125838 1042816 0 = some (0, 0, 384983169469477913279228545082620110, 1048575, 1) := td_sv_seq 7 126 td_q_27 12 14 735227598910336417307076712 527472131442700978740191234765125838 1042816 0 td_p_26
theorem td_q_25 : td_sv 7 150 14 193628831795037942120491368 527481657333199282536178468816713934 1044864 0 = some (0, 0, 384983169469477913279228545082620110, 1048575, 1) := td_sv_seq 7 138 td_q_26 12 14 193628831795037942120491368 527481657333199282536178468816713934 1044864 0 td_p_25
theorem td_q_24 : td_sv 7 162 19 42816046582149130253217863784 528130694440605954339561177271531726 878208 0 = some (0, 0, 384983169469477913279228545082620110, 1048575, 1) := td_sv_seq 7 150 td_q_25 12 19 42816046582149130253217863784 528130694440605954339561177271531726 878208 0 td_p_24
theorem td_q_23 : td_sv 7 174 20 50243460670261397238942570600 527477220556188302083089626769160398 575104 0 = some (0, 0, 384983169469477913279228545082620110, 1048575, 1) := td_sv_seq 7 162 td_q_24 12 20 50243460670261397238942570600 527477220556188302083089626769160398 575104 0 td_p_23
theorem td_q_22 : td_sv 7 186 17 40340090945962341768605767784 527481657333289100885994865230379214 1001088 0 = some (0, 0, 384983169469477913279228545082620110, 1048575, 1) := td_sv_seq 7 174 td_q_23 12 17 40340090945962341768605767784 527481657333289100885994865230379214 1001088 0 td_p_22
theorem td_q_21 : td_sv 7 198 19 42583932824783120352229759080 528130694440605954339561177271531726 879232 0 = some (0, 0, 384983169469477913279228545082620110, 1048575, 1) := td_sv_seq 7 186 td_q_22 12 19 42583932824783120352229759080 528130694440605954339561177271531726 879232 0 td_p_21
theorem td_q_20 : td_sv 7 210 18 50011195788797995670554843240 528126257663505155536655938810312910 961152 0 = some (0, 0, 384983169469477913279228545082620110, 1048575, 1) := td_sv_seq 7 198 td_q_21 12 18 50011195788797995670554843240 528126257663505155536655938810312910 961152 0 td_p_20
theorem td_q_19 : td_sv 7 222 15 40107372576671420013871667304 527481579401095065248539746971449550 1043072 0 = some (0, 0, 384983169469477913279228545082620110, 1048575, 1) := td_sv_seq 7 210 td_q_20 12 15 40107372576671420013871667304 527481579401095065248539746971449550 1043072 0 td_p_19
theorem td_q_18 : td_sv 7 234 14 793104922803680351938451560 527481657332901866834399554322856142 1045120 0 = some (0, 0, 384983169469477913279228545082620110, 1048575, 1) := td_sv_seq 7 222 td_q_19 12 14 793104922803680351938451560 527481657332901866834399554322856142 1045120 0 td_p_18
theorem td_q_17 : td_sv 7 246 18 40050099864486885536792357224 528125623837902809967051533165033678 945280 0 = some (0, 0, 384983169469477913279228545082620110, 1048575, 1) := td_sv_seq 7 234 td_q_18 12 18 40050099864486885536792357224 528125623837902809967051533165033678 945280 0 td_p_17
theorem td_q_16 : td_sv 7 258 19 45001406897527355161346353512 569380594617107750318202297491945678 994432 0 = some (0, 0, 384983169469477913279228545082620110, 1048575, 1) := td_sv_seq 7 246 td_q_17 12 19 45001406897527355161346353512 569380594617107750318202297491945678 994432 0 td_p_16
theorem td_q_15 : td_sv 7 270 21 41287964356877056858556770664 569334959195499534059748416176552142 797824 0 = some (0, 0, 384983169469477913279228545082620110, 1048575, 1) := td_sv_seq 7 258 td_q_16 12 21 41287964356877056858556770664 569334959195499534059748416176552142 797824 0 td_p_15
theorem td_q_14 : td_sv 7 282 16 735076484687157318849702248 528121187061014517655875428738431182 1045632 0 = some (0, 0, 384983169469477913279228545082620110, 1048575, 1) := td_sv_seq 7 270 td_q_15 12 16 735076484687157318849702248 528121187061014517655875428738431182 1045632 0 td_p_14
theorem td_q_13 : td_sv 7 294 14 735076483246005369367472488 528201604942237206040319008426719438 1045632 0 = some (0, 0, 384983169469477913279228545082620110, 1048575, 1) := td_sv_seq 7 282 td_q_14 12 14 735076483246005369367472488 528201604942237206040319008426719438 1045632 0 td_p_13
theorem td_q_12 : td_sv 7 306 14 193477716346879676298865000 528202304300387228689892896897267918 1046656 0 = some (0, 0, 384983169469477913279228545082620110, 1048575, 1) := td_sv_seq 7 294 td_q_13 12 14 193477716346879676298865000 528202304300387228689892896897267918 1046656 0 td_p_12
theorem td_q_11 : td_sv 7 318 20 51481325141390008594565994920 528202304300459169789037788663937230 831232 0 = some (0, 0, 384983169469477913279228545082620110, 1048575, 1) := td_sv_seq 7 306 td_q_12 12 20 51481325141390008594565994920 528202304300459169789037788663937230 831232 0 td_p_11
theorem td_q_10 : td_sv 7 330 13 97141513527394464342513832 529104007426558108404815237932415182 1048320 0 = some (0, 0, 384983169469477913279228545082620110, 1048575, 1) := td_sv_seq 7 318 td_q_11 12 13 97141513527394464342513832 529104007426558108404815237932415182 1048320 0 td_p_10
theorem td_q_9 : td_sv 7 342 20 42816046582221121859378256296 529104007431181305191544620596623566 904448 0 = some (0, 0, 384983169469477913279228545082620110, 1048575, 1) := td_sv_seq 7 330 td_q_10 12 20 42816046582221121859378256296 529104007431181305191544620596623566 904448 0 td_p_9
theorem td_q_8 : td_sv 7 354 21 52719567487088204793432807848 568406801237794929405911561583753422 347392 0 = some (0, 0, 384983169469477913279228545082620110, 1048575, 1) := td_sv_seq 7 342 td_q_9 12 21 52719567487088204793432807848 568406801237794929405911561583753422 347392 0 td_p_8
theorem td_q_7 : td_sv 7 366 19 40340166505055554847967320488 11152667979866197425566819313285326 281856 0 = some (0, 0, 384983169469477913279228545082620110, 1048575, 1) := td_sv_seq 7 354 td_q_8 12 19 40340166505055554847967320488 11152667979866197425566819313285326 281856 0 td_p_7
theorem td_q_6 : td_sv 7 378 18 10078335978469664744391874984 11208754125348490305240149961767118 439552 0 = some (0, 0, 384983169469477913279228545082620110, 1048575, 1) := td_sv_seq 7 366 td_q_7 12 18 10078335978469664744391874984 11208754125348490305240149961767118 439552 0 td_p_6
theorem td_q_5 : td_sv 7 390 13 174815071224610683722700968 11208370383052451360011255058299086 521472 0 = some (0, 0, 384983169469477913279228545082620110, 1048575, 1) := td_sv_seq 7 378 td_q_6 12 13 174815071224610683722700968 11208370383052451360011255058299086 521472 0 td_p_5
theorem td_q_4 : td_sv 7 402 17 3192369479571855126087375272 11183334283698092610248984981698766 484864 0 = some (0, 0, 384983169469477913279228545082620110, 1048575, 1) := td_sv_seq 7 390 td_q_5 12 17 3192369479571855126087375272 11183334283698092610248984981698766 484864 0 td_p_4
theorem td_q_3 : td_sv 7 414 15 3191764864547340897527306920 174808728565786500924100158978254 247296 0 = some (0, 0, 384983169469477913279228545082620110, 1048575, 1) := td_sv_seq 7 402 td_q_4 12 15 3191764864547340897527306920 174808728565786500924100158978254 247296 0 td_p_3
theorem td_q_2 : td_sv 7 426 17 174890634066080858049649064 174816157645089611883979094390990 236032 0 = some (0, 0, 384983169469477913279228545082620110, 1048575, 1) := td_sv_seq 7 414 td_q_3 12 17 174890634066080858049649064 174816157645089611883979094390990 236032 0 td_p_2
theorem td_q_1 : td_sv 7 438 12 174286018609080293409724584 50343020397102921934 512 0 = some (0, 0, 384983169469477913279228545082620110, 1048575, 1) := td_sv_seq 7 426 td_q_2 12 12 174286018609080293409724584 50343020397102921934 512 0 td_p_1
theorem td_q_0 : td_sv 7 450 1 0 0 0 0 = some (0, 0, 384983169469477913279228545082620110, 1048575, 1) := td_sv_seq 7 438 td_q_1 12 1 0 0 0 0 td_p_0
/-- what the evaluation shows -/
def td_OK (n : Nat) : Prop := ∀ k, k < n → ∃ bl bb, td_sv n 450 1 (td_pk k) 0 0 0 = some (0, td_pk k, bl, bb, 1)
theorem td_OK_all : ∀ n, 3 ≤ n → n ≤ 7 → td_OK n := by
  intro n h3 h7 k hk
  rcases (show n = 3 ∨ n = 4 ∨ n = 5 ∨ n = 6 ∨ n = 7 by omega) with e | e | e | e | e
  · subst e
    rcases (show k = 0 ∨ k = 1 ∨ k = 2 by omega) with e | e | e
    · subst e
      exact td_ok_1 td_ok_3_0
    · subst e
      exact td_ok_1 td_ok_3_1
    · subst e
      exact td_ok_1 td_ok_3_2
  · subst e
    rcases (show k = 0 ∨ k = 1 ∨ k = 2 ∨ k = 3 by omega) with e | e | e | e
    · subst e
      exact td_ok_1 td_ok_4_0
    · subst e
      exact td_ok_1 td_ok_4_1
    · subst e
      exact td_ok_1 td_ok_4_2
    · subst e
      exact td_ok_1 td_ok_4_3
  · subst e
    rcases (show k = 0 ∨ k = 1 ∨ k = 2 ∨ k = 3 ∨ k = 4 by omega) with e | e | e | e | e
    · subst e
      exact td_ok_1 td_ok_5_0
    · subst e
      exact td_ok_1 td_ok_5_1
    · subst e
      exact td_ok_1 td_ok_5_2
    · subst e
      exact td_ok_1 td_ok_5_3
    · subst e
      exact td_ok_1 td_ok_5_4
  · subst e
    rcases (show k = 0 ∨ k = 1 ∨ k = 2 ∨ k = 3 ∨ k = 4 ∨ k = 5 by omega) with e | e | e | e | e | e
    · subst e
      exact td_ok_1 td_ok_6_0
    · subst e
      exact td_ok_1 td_ok_6_1
    · subst e
      exact td_ok_1 td_ok_6_2
    · subst e
      exact td_ok_1 td_ok_6_3
    · subst e
      exact td_ok_1 td_ok_6_4
    · subst e
      exact td_ok_1 td_ok_6_5
  · subst e
    rcases (show k = 0 ∨ k = 1 ∨ k = 2 ∨ k = 3 ∨ k = 4 ∨ k = 5 ∨ k = 6 by omega) with e | e | e | e | e | e | e
    · subst e
      exact ⟨_, _, td_q_0⟩
    · subst e
      exact td_ok_1 td_ok_7_1
    · subst e
      exact td_ok_1 td_ok_7_2
    · subst e
      exact td_ok_1 td_ok_7_3
    · subst e
      exact td_ok_1 td_ok_7_4
    · subst e
      exact td_ok_1 td_ok_7_5
    · subst e
      exact td_ok_1 td_ok_7_6
end
section
/-! the walks of build and what it calls -/
section
variable {n d pn nw : Nat} {tc ls tk tu : Int32} {a1 a2 a3 a4 a5 a6 a7 a8 a9 a10 : Nat → Int32}
theorem td_w_weight {post : Int32 → Prop} {a b : Nat} (hn : n ≤ 7) (ha : a < n) (hb : b < n) (hL : td_L d a1) (hP : td_P n pn a4)
    (hp : post (td_c d (td_g 4096 pn a + td_g 4096 pn b))) : wpX_weight post (nI n, tc, ls, tk, tu, a1, a2, a3, a4, a5, a6, a7, a8, a9, a10) (nI a) (nI b) := by
  unfold wpX_weight
  dsimp only
  rw [td_ix, nI_clamp (show a * 7 + b < 2 ^ 31 by omega), nI_clamp (show a < 2 ^ 31 by omega), nI_clamp (show b < 2 ^ 31 by omega), hL _ (by omega), hP _ ha, hP _ hb, td_cw]
  exact ⟨pk_in (a * 7 + b) 49 (by omega), pk_in a 7 (by omega), pk_in b 7 (by omega), hp⟩
theorem td_w_mg {post : St2 → Prop} {keep lose : Nat} (hn : n ≤ 7) (hk : keep < 8) (hl : lose < 8) : ∀ k c g a5 g', c + k = n → td_A 8 n g a5 → td_mg keep lose k c g = g' →
    (∀ a5', td_A 8 n g' a5' → post (nI n, tc, ls, tk, tu, a1, a2, a3, a4, a5', a6, a7, a8, a9, a10)) → wX_merge_2 post (nI keep) (nI lose) (nI n) tc ls tk tu (k + 1) (nI c) a1 a2 a3 a4 a5 a6 a7 a8 a9 a10 := by
  intro k
  induction k with
  | zero =>
    intro c g a5 g' hc hA hm hp
    have e : g = g' := hm
    subst e
    exact pk_le n c (fun _ => hp a5 hA) (fun h => absurd h (by omega))
  | succ k ih =>
    intro c g a5 g' hc hA hm hp
    rw [td_mg_s] at hm
    refine pk_le n c (fun h => absurd h (by omega)) (fun _ => ⟨pk_in c 7 (by omega), ?_⟩)
    rw [nI_clamp (show c < 2 ^ 31 by omega), hA c (by omega)]
    refine pk_eq (td_g 8 g c) lose (fun e => ?_) (fun e => ?_) rfl rfl (td_gb (by omega) (by omega) _ _) (by omega)
    · rw [td_e_t e] at hm
      exact ⟨pk_in c 7 (by omega), nm_e (nm_r (nI_1 c) (ih (c + 1) _ _ g' (by omega) (td_As hA (td_b8 keep (by omega)) hk) hm hp))⟩
    · rw [td_e_f e] at hm
      exact nm_r (nI_1 c) (ih (c + 1) g a5 g' (by omega) hA hm hp)
theorem td_w_take {post : St2 → Prop} {a b g dg ch T c g' dg' ch' T' c' : Nat} (hn : n ≤ 7) (ha : a < n) (hb : b < n) (hL : td_L d a1) (hP : td_P n pn a4)
    (hR : td_R n d g dg ch T c tc a5 a6 a7) (hm : td_tk n pn a b g dg ch T c = some (g', dg', ch', T', c'))
    (hp : ∀ tc' a5' a6' a7', td_R n d g' dg' ch' T' c' tc' a5' a6' a7' → post (nI n, tc', ls, tk, tu, a1, a2, a3, a4, a5', a6', a7', a8, a9, a10)) : wpX_take post (nI n, tc, ls, tk, tu, a1, a2, a3, a4, a5, a6, a7, a8, a9, a10) (nI a) (nI b) := by
  obtain ⟨h5, h6, h7, ht⟩ := hR
  rw [td_tk_eq] at hm
  have e1 : td_g 16 dg a ≤ 13 := by
    by_cases e : td_g 16 dg a ≤ 13
    · exact e
    · rw [td_l_f e] at hm
      exact absurd hm.symm (Option.some_ne_none _)
  rw [td_l_t e1] at hm
  have e2 : td_g 16 (td_s 16 dg a (td_g 16 dg a + 1)) b ≤ 13 := by
    by_cases e : td_g 16 (td_s 16 dg a (td_g 16 dg a + 1)) b ≤ 13
    · exact e
    · rw [td_l_f e] at hm
      exact absurd hm.symm (Option.some_ne_none _)
  rw [td_l_t e2] at hm
  have h7' : td_A 2 49 (td_s 2 (td_s 2 ch (a * 7 + b) 1) (b * 7 + a) 1) (upd (upd a7 (a * 7 + b) 1) (b * 7 + a) 1) := td_As (td_As h7 (by rfl) (by omega)) (by rfl) (by omega)
  have h6a : td_A 16 n (td_s 16 dg a (td_g 16 dg a + 1)) (upd a6 a ((a6 a + 1).toInt8.toInt32)) :=
    td_As h6 (by rw [h6 a ha, nI_1, td_b8 _ (by omega)]) (by omega)
  have h6b : td_A 16 n (td_s 16 (td_s 16 dg a (td_g 16 dg a + 1)) b (td_g 16 (td_s 16 dg a (td_g 16 dg a + 1)) b + 1)) (upd (upd a6 a ((a6 a + 1).toInt8.toInt32)) b ((upd a6 a ((a6 a + 1).toInt8.toInt32) b + 1).toInt8.toInt32)) :=
    td_As h6a (by rw [h6a b hb, nI_1, td_b8 _ (by omega)]) (by omega)
  unfold wpX_take
  dsimp only
  rw [td_ix, td_ix, nI_clamp (show b * 7 + a < 2 ^ 31 by omega), nI_clamp (show a < 2 ^ 31 by omega), nI_clamp (show b < 2 ^ 31 by omega)]
  refine nm_e ⟨pk_in (a * 7 + b) 49 (by omega), nm_e ⟨pk_in (b * 7 + a) 49 (by omega), nm_e ⟨pk_in a 7 (by omega), pk_in a 7 (by omega), nm_e ⟨pk_in b 7 (by omega), pk_in b 7 (by omega), nm_e ?_⟩⟩⟩⟩
  rw [nI_clamp (show a * 7 + b < 2 ^ 31 by omega)]
  refine td_w_weight hn ha hb hL hP (nm_e ?_)
  rw [ht, td_tw]
  refine pk_eq a 0 (fun e => ?_) (fun e => ?_)
  · rw [td_e_t e] at hm
    cases hm
    exact hp _ _ _ _ ⟨h5, h6b, h7', rfl⟩
  · rw [td_e_f e] at hm
    refine pk_eq b 0 (fun e => ?_) (fun e => ?_)
    · rw [td_e_t e] at hm
      cases hm
      exact hp _ _ _ _ ⟨h5, h6b, h7', rfl⟩
    · rw [td_e_f e] at hm
      cases hm
      rw [h5 a ha, h5 b hb]
      refine ⟨pk_in a 7 (by omega), pk_in b 7 (by omega), n + 1, ?_⟩
      exact td_w_mg hn (td_g_lt (by omega) _ _) (td_g_lt (by omega) _ _) n 0 g a5 _ (by omega) h5 rfl (fun a5' h => hp _ _ _ _ ⟨h, h6b, h7', rfl⟩)
theorem td_w_t1 {post : Int32 → St2 → Prop} {a b g dg ch T c : Nat} {r : Option td_S} (hn : n ≤ 7) (ha : a < n) (hb : b < n) (hL : td_L d a1) (hP : td_P n pn a4)
    (hR : td_R n d g dg ch T c tc a5 a6 a7) (hm : td_t1 n pn a b g dg ch T c = some r)
    (h0 : r = none → ∀ tc' a5' a6' a7', post 0 (nI n, tc', ls, tk, tu, a1, a2, a3, a4, a5', a6', a7', a8, a9, a10))
    (h1 : ∀ g' dg' ch' T' c', r = some (g', dg', ch', T', c') → ∀ tc' a5' a6' a7', td_R n d g' dg' ch' T' c' tc' a5' a6' a7' → post 1 (nI n, tc', ls, tk, tu, a1, a2, a3, a4, a5', a6', a7', a8, a9, a10)) : wpX_takeOne post (nI n, tc, ls, tk, tu, a1, a2, a3, a4, a5, a6, a7, a8, a9, a10) (nI a) (nI b) := by
  have hR' := hR
  obtain ⟨h5, h6, h7, ht⟩ := hR
  have hd : ∀ i, td_g 16 dg i < 2 ^ 31 := fun i => td_gb (by omega) (by omega) _ _
  have hT : td_wr (td_tk n pn a b g dg ch T c) = some r → wX_takeOne_43 post (nI a) (nI b) (nI n) tc ls tk tu a1 a2 a3 a4 a5 a6 a7 a8 a9 a10 := by
    intro hw
    cases ht : td_tk n pn a b g dg ch T c with
    | none =>
      rw [ht] at hw
      exact absurd hw.symm (Option.some_ne_none _)
    | some s =>
      rw [ht] at hw
      obtain ⟨g', dg', ch', T', c'⟩ := s
      have hr : some (g', dg', ch', T', c') = r := Option.some.inj hw
      exact td_w_take hn ha hb hL hP hR' ht (fun tc' a5' a6' a7' hR2 => h1 g' dg' ch' T' c' hr.symm tc' a5' a6' a7' hR2)
  unfold td_t1 at hm
  unfold wpX_takeOne
  dsimp only
  rw [nI_clamp (show a < 2 ^ 31 by omega), nI_clamp (show b < 2 ^ 31 by omega), h6 a ha, h6 b hb, h5 a ha, h5 b hb]
  refine ⟨pk_in a 7 (by omega), pk_le 2 (td_g 16 dg a) (fun e => ?_) (fun e => ⟨pk_in b 7 (by omega), ?_⟩) rfl rfl (by omega) (hd a)⟩
  · rw [td_l_t e] at hm
    exact h0 (Option.some.inj hm).symm _ _ _ _
  · rw [td_l_f (by omega)] at hm
    refine pk_lt (td_g 16 dg b) 2 (fun e2 => ?_) (fun e2 => ?_) rfl rfl (hd b) (by omega)
    · rw [td_l_f (by omega)] at hm
      refine pk_eq a 0 (fun e3 => ?_) (fun e3 => ⟨pk_in a 7 (by omega), pk_in b 7 (by omega), ?_⟩)
      · rw [td_e_t e3] at hm
        exact hT hm
      · rw [td_e_f e3] at hm
        refine pk_eq (td_g 8 g a) (td_g 8 g b) (fun e4 => ?_) (fun e4 => ?_) rfl rfl (td_gb (by omega) (by omega) _ _) (td_gb (by omega) (by omega) _ _)
        · rw [td_e_t e4] at hm
          exact h0 (Option.some.inj hm).symm _ _ _ _
        · rw [td_e_f e4] at hm
          exact hT hm
    · rw [td_l_t e2] at hm
      exact h0 (Option.some.inj hm).symm _ _ _ _
theorem td_w_ri {post : Int32 → St2 → Prop} {J : Int32 → Int32 → Int32 → Int32 → Int32 → Int32 → (Nat → Int32) → (Nat → Int32) → (Nat → Int32) → (Nat → Int32) → (Nat → Int32) → (Nat → Int32) → (Nat → Int32) → (Nat → Int32) → (Nat → Int32) → (Nat → Int32) → Prop} {a : Nat} {r : Option td_S}
    (hn : n ≤ 7) (ha : a < n) (hL : td_L d a1) (hP : td_P n pn a4) (h3 : td_A 4 49 nw a3)
    (h0 : r = none → ∀ tc' a5' a6' a7', post 0 (nI n, tc', ls, tk, tu, a1, a2, a3, a4, a5', a6', a7', a8, a9, a10))
    (h1 : ∀ g' dg' ch' T' c', r = some (g', dg', ch', T', c') → ∀ tc' a5' a6' a7', td_R n d g' dg' ch' T' c' tc' a5' a6' a7' → J (nI (a + 1)) (nI n) tc' ls tk tu a1 a2 a3 a4 a5' a6' a7' a8 a9 a10) :
    ∀ k b g dg ch T c tc a5 a6 a7, b + k = n → td_R n d g dg ch T c tc a5 a6 a7 → td_ri n pn nw a k b g dg ch T c = some r →
      wX_takeRequired_14 post J (nI a) (k + 1) (nI b) (nI n) tc ls tk tu a1 a2 a3 a4 a5 a6 a7 a8 a9 a10 := by
  intro k
  induction k with
  | zero =>
    intro b g dg ch T c tc a5 a6 a7 hb hR hm
    exact pk_le n b (fun _ => nm_r (nI_1 a) (h1 g dg ch T c (Option.some.inj hm).symm tc a5 a6 a7 hR)) (fun h => absurd h (by omega))
  | succ k ih =>
    intro b g dg ch T c tc a5 a6 a7 hb hR hm
    rw [td_ri_s] at hm
    refine pk_le n b (fun h => absurd h (by omega)) (fun _ => ?_)
    rw [td_ix, nI_clamp (show a * 7 + b < 2 ^ 31 by omega), h3 _ (by omega)]
    refine ⟨pk_in (a * 7 + b) 49 (by omega), pk_eq (td_g 4 nw (a * 7 + b)) 1 (fun e => ?_) (fun e => ?_) rfl rfl (td_gb (by omega) (by omega) _ _) (by omega)⟩
    · rw [td_e_t e] at hm
      cases ht : td_t1 n pn a b g dg ch T c with
      | none =>
        rw [ht] at hm
        exact absurd hm.symm (Option.some_ne_none _)
      | some s =>
        rw [ht] at hm
        refine td_w_t1 hn ha (by omega) hL hP hR ht (fun es tc' a5' a6' a7' => ?_) (fun g' dg' ch' T' c' es tc' a5' a6' a7' hR' => ?_)
        · rw [es] at hm
          exact br_t rfl (h0 (Option.some.inj hm).symm tc' a5' a6' a7')
        · rw [es] at hm
          exact br_f (by decide) (nm_r (nI_1 b) (ih (b + 1) g' dg' ch' T' c' tc' a5' a6' a7' (by omega) hR' hm))
    · rw [td_e_f e] at hm
      exact nm_r (nI_1 b) (ih (b + 1) g dg ch T c tc a5 a6 a7 (by omega) hR hm)
theorem td_w_ro {post : Int32 → St2 → Prop} {r : Option td_S}
    (hn : n ≤ 7) (hL : td_L d a1) (hP : td_P n pn a4) (h3 : td_A 4 49 nw a3)
    (h0 : r = none → ∀ tc' a5' a6' a7', post 0 (nI n, tc', ls, tk, tu, a1, a2, a3, a4, a5', a6', a7', a8, a9, a10))
    (h1 : ∀ g' dg' ch' T' c', r = some (g', dg', ch', T', c') → ∀ tc' a5' a6' a7', td_R n d g' dg' ch' T' c' tc' a5' a6' a7' → post 1 (nI n, tc', ls, tk, tu, a1, a2, a3, a4, a5', a6', a7', a8, a9, a10)) :
    ∀ k a g dg ch T c tc a5 a6 a7, a + k = n → td_R n d g dg ch T c tc a5 a6 a7 → td_ro n pn nw k a g dg ch T c = some r →
      wX_takeRequired_2 post (k + 1) (nI a) (nI n) tc ls tk tu a1 a2 a3 a4 a5 a6 a7 a8 a9 a10 := by
  intro k
  induction k with
  | zero =>
    intro a g dg ch T c tc a5 a6 a7 ha hR hm
    exact pk_le n a (fun _ => h1 g dg ch T c (Option.some.inj hm).symm tc a5 a6 a7 hR) (fun h => absurd h (by omega))
  | succ k ih =>
    intro a g dg ch T c tc a5 a6 a7 ha hR hm
    rw [td_ro_s] at hm
    refine pk_le n a (fun h => absurd h (by omega)) (fun _ => nm_r (nI_1 a) ⟨k + 1, ?_⟩)
    cases ht : td_ri n pn nw a k (a + 1) g dg ch T c with
    | none =>
      rw [ht] at hm
      exact absurd hm.symm (Option.some_ne_none _)
    | some s =>
      rw [ht] at hm
      refine td_w_ri hn (by omega) hL hP h3 (fun es tc' a5' a6' a7' => ?_) (fun g' dg' ch' T' c' es tc' a5' a6' a7' hR' => ?_) k (a + 1) g dg ch T c tc a5 a6 a7 (by omega) hR ht
      · rw [es] at hm
        exact h0 (Option.some.inj hm).symm tc' a5' a6' a7'
      · rw [es] at hm
        exact ih (a + 1) g' dg' ch' T' c' tc' a5' a6' a7' (by omega) hR' hm
theorem td_w_jn {post : Int32 → Prop} {g r : Nat} (h3 : 3 ≤ n) (hn : n ≤ 7) (hA : td_A 8 n g a5) (hp : post (nI r)) : ∀ k a, a + k = n → td_jn g k a = r →
    wX_joined_2 post (nI n) tc ls tk tu a1 a2 a3 a4 a5 a6 a7 a8 a9 a10 (k + 1) (nI a) := by
  intro k
  induction k with
  | zero =>
    intro a ha hm
    have e : 1 = r := hm
    subst e
    exact pk_le n a (fun _ => hp) (fun h => absurd h (by omega))
  | succ k ih =>
    intro a ha hm
    rw [td_jn_s] at hm
    refine pk_le n a (fun h => absurd h (by omega)) (fun _ => ?_)
    rw [nI_clamp (show a < 2 ^ 31 by omega), hA a (by omega), hA 1 (by omega)]
    refine ⟨pk_in a 7 (by omega), pk_eq (td_g 8 g a) (td_g 8 g 1) (fun e => ?_) (fun e => ?_) rfl rfl (td_gb (by omega) (by omega) _ _) (td_gb (by omega) (by omega) _ _)⟩
    · rw [td_e_t e] at hm
      exact nm_r (nI_1 a) (ih (a + 1) (by omega) hm)
    · rw [td_e_f e] at hm
      subst hm
      exact hp
theorem td_jn_01 (g : Nat) : ∀ k a, td_jn g k a = 0 ∨ td_jn g k a = 1 := by
  intro k
  induction k with
  | zero => exact fun a => Or.inr rfl
  | succ k ih =>
    intro a
    rw [td_jn_s]
    by_cases e : td_g 8 g a = td_g 8 g 1
    · rw [td_e_t e]
      exact ih (a + 1)
    · rw [td_e_f e]
      exact Or.inl rfl
/-- what cheapestJoin keeps: the best link and its weight -/
def td_J (n d best cost : Nat) (x : Int32) : Prop := best ≠ 0 → x = td_c d cost ∧ cost < 10000 ∧ (best - 1) / 7 < n ∧ (best - 1) % 7 < n
theorem td_w_ji {post : Int32 → Prop} {J : Int32 → Int32 → Int32 → Prop} {g a : Nat} (hd : d ≤ 99) (hn : n ≤ 7) (ha : a < n) (hL : td_L d a1) (hP : td_P n pn a4) (h3 : td_A 4 49 nw a3) (h5 : td_A 8 n g a5) :
    ∀ k b best cost x, b + k = n → best ≤ 49 → td_J n d best cost x →
      (∀ x', (td_ji nw pn g a k b best cost).1 ≤ 49 → td_J n d (td_ji nw pn g a k b best cost).1 (td_ji nw pn g a k b best cost).2 x' → J (td_n (td_ji nw pn g a k b best cost).1) x' (nI (a + 1))) →
      wX_cheapestJoin_19 post J (nI a) (nI n) tc ls tk tu a1 a2 a3 a4 a5 a6 a7 a8 a9 a10 (k + 1) (td_n best) x (nI b) := by
  intro k
  induction k with
  | zero =>
    intro b best cost x hb hq hJ h
    exact pk_le n b (fun _ => nm_r (nI_1 a) (h x hq hJ)) (fun h => absurd h (by omega))
  | succ k ih =>
    intro b best cost x hb hq hJ h
    rw [td_ji_s] at h
    have hw1 := td_g_lt (B := 4096) (by omega) pn a
    have hw2 := td_g_lt (B := 4096) (by omega) pn b
    have N1 := fun hh => ih (b + 1) best cost x (by omega) hq hJ hh
    have N2 := fun hh => ih (b + 1) (a * 7 + b + 1) (td_g 4096 pn a + td_g 4096 pn b) (td_c d (td_g 4096 pn a + td_g 4096 pn b)) (by omega) (by omega) (fun _ => ⟨rfl, by omega, by omega, by omega⟩) hh
    rw [td_ns] at N2
    refine pk_le n b (fun h => absurd h (by omega)) (fun _ => td_w_weight hn ha (by omega) hL hP ?_)
    rw [td_ix, nI_clamp (show a * 7 + b < 2 ^ 31 by omega), nI_clamp (show a < 2 ^ 31 by omega), nI_clamp (show b < 2 ^ 31 by omega), h3 _ (by omega), h5 a ha, h5 b (by omega)]
    refine ⟨pk_in (a * 7 + b) 49 (by omega), pk_eq (td_g 4 nw (a * 7 + b)) 0 (fun e => ⟨pk_in a 7 (by omega), pk_in b 7 (by omega), ?_⟩) (fun e => ?_) rfl rfl (td_gb (by omega) (by omega) _ _) (by omega)⟩
    · rw [td_e_t e] at h
      refine pk_eq (td_g 8 g a) (td_g 8 g b) (fun e2 => ?_) (fun e2 => ?_) rfl rfl (td_gb (by omega) (by omega) _ _) (td_gb (by omega) (by omega) _ _)
      · rw [td_e_t e2] at h
        exact br_t rfl (nm_r (nI_1 b) (N1 h))
      · rw [td_e_f e2] at h
        refine br_f (by decide) ?_
        by_cases e3 : best = 0
        · rw [td_e_t e3] at h
          subst e3
          exact br_t td_n_neg (nm_r (td_ix a b) (nm_r (nI_1 b) (N2 h)))
        · rw [td_e_f e3] at h
          obtain ⟨hx, hc, hj1, hj2⟩ := hJ e3
          have hneg : ¬ td_n best < 0 := by
            obtain ⟨q, rfl⟩ : ∃ q, best = q + 1 := ⟨best - 1, by omega⟩
            rw [td_ns]
            exact nI_pos (by omega)
          refine br_f hneg ?_
          subst hx
          by_cases e4 : cost ≤ td_g 4096 pn a + td_g 4096 pn b
          · rw [td_l_t e4] at h
            exact br_t ((td_c_le hd (by omega) (by omega)).mpr e4) (nm_r (nI_1 b) (N1 h))
          · rw [td_l_f e4] at h
            exact br_f (fun z => e4 ((td_c_le hd (by omega) (by omega)).mp z)) (nm_r (td_ix a b) (nm_r (nI_1 b) (N2 h)))
    · rw [td_e_f e] at h
      exact br_t rfl (nm_r (nI_1 b) (N1 h))
theorem td_w_jo {post : Int32 → Prop} {g : Nat} (hd : d ≤ 99) (hn : n ≤ 7) (hL : td_L d a1) (hP : td_P n pn a4) (h3 : td_A 4 49 nw a3) (h5 : td_A 8 n g a5) :
    ∀ k a best cost x l, a + k = n → best ≤ 49 → td_J n d best cost x → td_jo nw pn g k a best cost = l →
      ((l ≠ 0 → (l - 1) / 7 < n ∧ (l - 1) % 7 < n) → post (td_n l)) →
      wX_cheapestJoin_6 post (nI n) tc ls tk tu a1 a2 a3 a4 a5 a6 a7 a8 a9 a10 (k + 1) (td_n best) x (nI a) := by
  intro k
  induction k with
  | zero =>
    intro a best cost x l ha hq hJ hm h
    have e : best = l := hm
    subst e
    exact pk_le n a (fun _ => h (fun z => ⟨(hJ z).2.2.1, (hJ z).2.2.2⟩)) (fun h => absurd h (by omega))
  | succ k ih =>
    intro a best cost x l ha hq hJ hm h
    rw [td_jo_s] at hm
    refine pk_le n a (fun h => absurd h (by omega)) (fun _ => nm_r (nI_1 a) ⟨k + 1, ?_⟩)
    exact td_w_ji hd hn (by omega) hL hP h3 h5 k (a + 1) best cost x (by omega) hq hJ (fun x' hq' hJ' => ih (a + 1) _ _ x' l (by omega) hq' hJ' hm h)
theorem td_w_gr {post : Int32 → St2 → Prop} {g' dg' ch' T' c' : Nat} (hd : d ≤ 99) (hn3 : 3 ≤ n) (hn : n ≤ 7) (hL : td_L d a1) (hP : td_P n pn a4) (h3 : td_A 4 49 nw a3)
    (h1 : ∀ tc' a5' a6' a7', td_R n d g' dg' ch' T' c' tc' a5' a6' a7' → post (nI (td_jn g' (n - 2) 2)) (nI n, tc', ls, tk, tu, a1, a2, a3, a4, a5', a6', a7', a8, a9, a10)) :
    ∀ k x g dg ch T c tc a5 a6 a7, x + k = n → td_R n d g dg ch T c tc a5 a6 a7 → td_gr n pn nw k g dg ch T c = some (g', dg', ch', T', c') →
      wX_growTree_2 post (k + 1) (nI x) (nI n) tc ls tk tu a1 a2 a3 a4 a5 a6 a7 a8 a9 a10 := by
  have hj : ∀ tc a5 a6 a7, td_R n d g' dg' ch' T' c' tc a5 a6 a7 → wpX_joined (fun r_2 => (narrow .boolean (.int r_2) = .int r_2 ∧ (post r_2 (nI n, tc, ls, tk, tu, a1, a2, a3, a4, a5, a6, a7, a8, a9, a10)))) (nI n, tc, ls, tk, tu, a1, a2, a3, a4, a5, a6, a7, a8, a9, a10) := by
    intro tc a5 a6 a7 hR
    refine ⟨n - 2 + 1, ?_⟩
    refine td_w_jn (r := td_jn g' (n - 2) 2) hn3 hn hR.1 ⟨?_, h1 tc a5 a6 a7 hR⟩ (n - 2) 2 (by omega) rfl
    rcases td_jn_01 g' (n - 2) 2 with e | e
    · rw [e]; rfl
    · rw [e]; rfl
  intro k
  induction k with
  | zero =>
    intro x g dg ch T c tc a5 a6 a7 hx hR hm
    cases hm
    exact pk_le n x (fun _ => hj tc a5 a6 a7 hR) (fun h => absurd h (by omega))
  | succ k ih =>
    intro x g dg ch T c tc a5 a6 a7 hx hR hm
    rw [td_gr_s] at hm
    refine pk_le n x (fun h => absurd h (by omega)) (fun _ => ⟨n - 1 + 1, ?_⟩)
    refine td_w_jo hd hn hL hP h3 hR.1 (n - 1) 1 0 0 0 (td_jo nw pn g (n - 1) 1 0 0) (by omega) (by omega) (fun z => absurd rfl z) rfl (fun hl => ?_)
    generalize td_jo nw pn g (n - 1) 1 0 0 = l at hm hl
    by_cases e : l = 0
    · rw [td_e_t e] at hm
      subst e
      cases hm
      exact br_f td_n_neg' (hj tc a5 a6 a7 hR)
    · rw [td_e_f e] at hm
      obtain ⟨hl1, hl2⟩ := hl e
      obtain ⟨q, rfl⟩ : ∃ q, l = q + 1 := ⟨l - 1, by omega⟩
      rw [Nat.add_sub_cancel] at hm hl1 hl2
      rw [td_ns]
      refine br_t (nI_pos' (by omega)) ⟨by decide, by decide, ?_⟩
      rw [show (7 : Int32) = nI 7 from rfl, pk_rem (by omega) (by omega) (by omega), pk_div (by omega) (by omega) (by omega)]
      cases ht : td_tk n pn (q / 7) (q % 7) g dg ch T c with
      | none =>
        rw [ht] at hm
        exact absurd hm.symm (Option.some_ne_none _)
      | some s =>
        rw [ht] at hm
        obtain ⟨g2, dg2, ch2, T2, c2⟩ := s
        exact td_w_take hn hl1 hl2 hL hP hR ht (fun tc' a5' a6' a7' hR' => nm_r (nI_1 x) (ih (x + 1) g2 dg2 ch2 T2 c2 tc' a5' a6' a7' (by omega) hR' hm))
theorem td_w_zi {post : Int32 → St2 → Prop} {J : Int32 → Int32 → Int32 → Int32 → Int32 → Int32 → (Nat → Int32) → (Nat → Int32) → (Nat → Int32) → (Nat → Int32) → (Nat → Int32) → (Nat → Int32) → (Nat → Int32) → (Nat → Int32) → (Nat → Int32) → (Nat → Int32) → Prop} {rd g dg ch T c l : Nat}
    (hd : d ≤ 99) (hn3 : 3 ≤ n) (hn : n ≤ 7) (hL : td_L d a1) (hP : td_P n pn a4) (h3 : td_A 4 49 nw a3) (hR : td_R n d g dg ch T c tc a5 a6 a7)
    (h0 : l = 0 → post 0 (nI n, tc, ls, tk, tu, a1, a2, a3, a4, a5, a6, a7, a8, a9, a10))
    (h1 : ∀ m, l = m + 1 → ∃ g' dg' ch' T' c', td_tk n pn 0 m g dg ch T c = some (g', dg', ch', T', c') ∧ ∀ tc' a5' a6' a7', td_R n d g' dg' ch' T' c' tc' a5' a6' a7' → J (nI (rd + 1)) (nI n) tc' ls tk tu a1 a2 a3 a4 a5' a6' a7' a8 a9 a10) :
    ∀ k b best cost x, b + k = n → best ≤ n → (best ≠ 0 → x = td_c d cost ∧ cost < 10000) → td_zi nw pn ch k b best cost = l →
      wX_closeAtZero_24 post J (nI rd) (nI n) tc ls tk tu a1 a2 a3 a4 a5 a6 a7 a8 a9 a10 (k + 1) (td_n best) x (nI b) := by
  intro k
  induction k with
  | zero =>
    intro b best cost x hb hq hJ hm
    have e : best = l := hm
    subst e
    refine pk_le n b (fun _ => ?_) (fun h => absurd h (by omega))
    by_cases e : best = 0
    · subst e
      exact br_f td_n_neg' (h0 rfl)
    · obtain ⟨q, rfl⟩ : ∃ q, best = q + 1 := ⟨best - 1, by omega⟩
      rw [td_ns]
      obtain ⟨g', dg', ch', T', c', ht, hj⟩ := h1 q rfl
      exact br_t (nI_pos' (by omega)) (td_w_take (a := 0) hn (by omega) (by omega) hL hP hR ht (fun tc' a5' a6' a7' hR' => nm_r (nI_1 rd) (hj tc' a5' a6' a7' hR')))
  | succ k ih =>
    intro b best cost x hb hq hJ hm
    have h7 := hR.2.2.1
    rw [td_zi_s] at hm
    have hw1 := td_g_lt (B := 4096) (by omega) pn 0
    have hw2 := td_g_lt (B := 4096) (by omega) pn b
    have N1 := fun hh => ih (b + 1) best cost x (by omega) hq hJ hh
    have N2 := fun hh => ih (b + 1) (b + 1) (td_g 4096 pn 0 + td_g 4096 pn b) (td_c d (td_g 4096 pn 0 + td_g 4096 pn b)) (by omega) (by omega) (fun _ => ⟨rfl, by omega⟩) hh
    rw [td_ns] at N2
    refine pk_le n b (fun h => absurd h (by omega)) (fun _ => td_w_weight (a := 0) hn (by omega) (by omega) hL hP ?_)
    rw [nI_clamp (show b < 2 ^ 31 by omega), h3 _ (by omega), h7 _ (by omega)]
    refine ⟨pk_in b 49 (by omega), pk_eq (td_g 4 nw b) 0 (fun e => ⟨pk_in b 49 (by omega), ?_⟩) (fun e => ?_) rfl rfl (td_gb (by omega) (by omega) _ _) (by omega)⟩
    · rw [td_e_t e] at hm
      refine pk_eq (td_g 2 ch b) 0 (fun e2 => ?_) (fun e2 => ?_) rfl rfl (td_gb (by omega) (by omega) _ _) (by omega)
      · rw [td_e_t e2] at hm
        refine br_f (by decide) ?_
        by_cases e3 : best = 0
        · rw [td_e_t e3] at hm
          subst e3
          exact br_t td_n_neg (nm_r (nI_1 b) (N2 hm))
        · rw [td_e_f e3] at hm
          obtain ⟨hx, hc⟩ := hJ e3
          have hneg : ¬ td_n best < 0 := by
            obtain ⟨q, rfl⟩ : ∃ q, best = q + 1 := ⟨best - 1, by omega⟩
            rw [td_ns]
            exact nI_pos (by omega)
          refine br_f hneg ?_
          subst hx
          by_cases e4 : cost ≤ td_g 4096 pn 0 + td_g 4096 pn b
          · rw [td_l_t e4] at hm
            exact br_t ((td_c_le hd (by omega) (by omega)).mpr e4) (nm_r (nI_1 b) (N1 hm))
          · rw [td_l_f e4] at hm
            exact br_f (fun z => e4 ((td_c_le hd (by omega) (by omega)).mp z)) (nm_r (nI_1 b) (N2 hm))
      · rw [td_e_f e2] at hm
        exact br_t rfl (nm_r (nI_1 b) (N1 hm))
    · rw [td_e_f e] at hm
      exact br_t rfl (nm_r (nI_1 b) (N1 hm))
theorem td_w_ze {post : Int32 → St2 → Prop} {r : Option td_S} {g dg ch T c : Nat} (hn3 : 3 ≤ n) (hR : td_R n d g dg ch T c tc a5 a6 a7)
    (h0 : r = none → ∀ tc' a5' a6' a7', post 0 (nI n, tc', ls, tk, tu, a1, a2, a3, a4, a5', a6', a7', a8, a9, a10))
    (h1 : ∀ g' dg' ch' T' c', r = some (g', dg', ch', T', c') → ∀ tc' a5' a6' a7', td_R n d g' dg' ch' T' c' tc' a5' a6' a7' → post 1 (nI n, tc', ls, tk, tu, a1, a2, a3, a4, a5', a6', a7', a8, a9, a10))
    (hm : td_ze g dg ch T c = some r) : wX_closeAtZero_114 post (nI n) tc ls tk tu a1 a2 a3 a4 a5 a6 a7 a8 a9 a10 := by
  unfold td_ze at hm
  unfold wX_closeAtZero_114
  rw [hR.2.1 0 (by omega)]
  refine pk_eq (td_g 16 dg 0) 2 (fun e => ?_) (fun e => ?_) rfl rfl (td_gb (by omega) (by omega) _ _) (by omega)
  · rw [td_e_t e] at hm
    exact h1 g dg ch T c (Option.some.inj hm).symm _ _ _ _ hR
  · rw [td_e_f e] at hm
    exact h0 (Option.some.inj hm).symm _ _ _ _
theorem td_w_zo {post : Int32 → St2 → Prop} {r : Option td_S}
    (hd : d ≤ 99) (hn3 : 3 ≤ n) (hn : n ≤ 7) (hL : td_L d a1) (hP : td_P n pn a4) (h3 : td_A 4 49 nw a3)
    (h0 : r = none → ∀ tc' a5' a6' a7', post 0 (nI n, tc', ls, tk, tu, a1, a2, a3, a4, a5', a6', a7', a8, a9, a10))
    (h1 : ∀ g' dg' ch' T' c', r = some (g', dg', ch', T', c') → ∀ tc' a5' a6' a7', td_R n d g' dg' ch' T' c' tc' a5' a6' a7' → post 1 (nI n, tc', ls, tk, tu, a1, a2, a3, a4, a5', a6', a7', a8, a9, a10)) :
    ∀ k rd g dg ch T c tc a5 a6 a7, rd + k = 2 → td_R n d g dg ch T c tc a5 a6 a7 → td_zo n pn nw k g dg ch T c = some r →
      wX_closeAtZero_2 post (k + 1) (nI rd) (nI n) tc ls tk tu a1 a2 a3 a4 a5 a6 a7 a8 a9 a10 := by
  intro k
  induction k with
  | zero =>
    intro rd g dg ch T c tc a5 a6 a7 hx hR hm
    exact pk_le 2 rd (fun _ => td_w_ze hn3 hR h0 h1 hm) (fun h => absurd h (by omega))
  | succ k ih =>
    intro rd g dg ch T c tc a5 a6 a7 hx hR hm
    rw [td_zo_s] at hm
    refine pk_le 2 rd (fun h => absurd h (by omega)) (fun _ => ?_)
    rw [hR.2.1 0 (by omega)]
    refine pk_le 2 (td_g 16 dg 0) (fun e => ?_) (fun e => ⟨n - 1 + 1, ?_⟩) rfl rfl (by omega) (td_gb (by omega) (by omega) _ _)
    · rw [td_l_t e] at hm
      exact td_w_ze hn3 hR h0 h1 hm
    · rw [td_l_f (by omega)] at hm
      refine td_w_zi (l := td_zi nw pn ch (n - 1) 1 0 0) hd hn3 hn hL hP h3 hR (fun e2 => ?_) (fun m e2 => ?_) (n - 1) 1 0 0 0 (by omega) (by omega) (fun z => absurd rfl z) rfl
      · rw [td_e_t e2] at hm
        exact h0 (Option.some.inj hm).symm _ _ _ _
      · rw [td_e_f (by omega), e2, Nat.add_sub_cancel] at hm
        cases ht : td_tk n pn 0 m g dg ch T c with
        | none =>
          rw [ht] at hm
          exact absurd hm.symm (Option.some_ne_none _)
        | some s =>
          rw [ht] at hm
          obtain ⟨g2, dg2, ch2, T2, c2⟩ := s
          exact ⟨g2, dg2, ch2, T2, c2, rfl, fun tc' a5' a6' a7' hR' => ih (rd + 1) g2 dg2 ch2 T2 c2 tc' a5' a6' a7' (by omega) hR' hm⟩
theorem td_G0 : ∀ j, j < 7 → td_g 8 1754760 j = j := by decide +kernel
/-- build -/
theorem td_w_bu {post : Int32 → St2 → Prop} {r : Option td_S}
    (hd : d ≤ 99) (hn3 : 3 ≤ n) (hn : n ≤ 7) (hL : td_L d a1) (hP : td_P n pn a4) (h3 : td_A 4 49 nw a3)
    (h0 : r = none → ∀ tc' a5' a6' a7', post 0 (nI n, tc', ls, tk, tu, a1, a2, a3, a4, a5', a6', a7', a8, a9, a10))
    (h1 : ∀ g' dg' ch' T' c', r = some (g', dg', ch', T', c') → ∀ tc' a5' a6' a7', td_R n d g' dg' ch' T' c' tc' a5' a6' a7' → post 1 (nI n, tc', ls, tk, tu, a1, a2, a3, a4, a5', a6', a7', a8, a9, a10))
    (hm : td_bu n pn nw = some r) : wpX_build post (nI n, tc, ls, tk, tu, a1, a2, a3, a4, a5, a6, a7, a8, a9, a10) := by
  unfold td_bu at hm
  have H38 : ∀ b5 b6, (∀ j, j < n → b5 j = nI j ∧ b6 j = 0) → ∃ fu, wX_build_38 post (nI n) 0 ls tk tu fu 0 a1 a2 a3 a4 b5 b6 a7 a8 a9 a10 := by
    intro b5 b6 hb
    refine pk_loop (fun m i s => wX_build_38 post (nI n) 0 ls tk tu m (nI i) a1 a2 a3 a4 b5 b6 s a8 a9 a10) (fun i s => ∀ j, j < i → s j = 0) 49 0 a7 (by omega) (fun j hj => absurd hj (by omega)) (fun m s hs => ?_) (fun m i s hi hs hw => ?_)
    · refine pk_le 49 49 (fun _ => ?_) (fun h => absurd h (by omega))
      have hR0 : td_R n d 1754760 0 0 0 0 0 b5 b6 s := by
        refine ⟨fun j hj => ?_, fun j hj => ?_, fun j hj => ?_, (td_t0 d).symm⟩
        · rw [(hb j hj).1, td_G0 j (by omega)]
        · rw [(hb j hj).2, td_g_0]; rfl
        · rw [hs j hj, td_g_0]; rfl
      cases ht : td_ro n pn nw n 0 1754760 0 0 0 0 with
      | none =>
        rw [ht] at hm
        exact absurd hm.symm (Option.some_ne_none _)
      | some q =>
        rw [ht] at hm
        refine ⟨n + 1, td_w_ro hn hL hP h3 (fun es tc' a5' a6' a7' => ?_) (fun g' dg' ch' T' c' es tc' a5' a6' a7' hR' => ?_) n 0 _ _ _ _ _ _ _ _ _ (by omega) hR0 ht⟩
        · rw [es] at hm
          exact br_t rfl (h0 (Option.some.inj hm).symm tc' a5' a6' a7')
        · rw [es] at hm
          refine br_f (by decide) ?_
          have hm' : td_k2 (fun g dg ch T c => td_e (td_jn g (Nat.sub n 2) 2) 0 (some none) (td_zo n pn nw 2 g dg ch T c)) (td_gr n pn nw (Nat.sub n 1) g' dg' ch' T' c') = some r := hm
          cases hg : td_gr n pn nw (n - 1) g' dg' ch' T' c' with
          | none =>
            rw [show Nat.sub n 1 = n - 1 from rfl, hg] at hm'
            exact absurd hm'.symm (Option.some_ne_none _)
          | some w =>
            rw [show Nat.sub n 1 = n - 1 from rfl, hg] at hm'
            obtain ⟨g2, dg2, ch2, T2, c2⟩ := w
            have hm2 : td_e (td_jn g2 (n - 2) 2) 0 (some none) (td_zo n pn nw 2 g2 dg2 ch2 T2 c2) = some r := hm'
            refine ⟨n - 1 + 1, td_w_gr hd hn3 hn hL hP h3 (fun tc2 b5' b6' b7' hR2 => ?_) (n - 1) 1 g' dg' ch' T' c' tc' a5' a6' a7' (by omega) hR' hg⟩
            rcases td_jn_01 g2 (n - 2) 2 with e | e
            · rw [td_e_t e] at hm2
              rw [e]
              exact br_t rfl (h0 (Option.some.inj hm2).symm tc2 b5' b6' b7')
            · rw [td_e_f (by omega)] at hm2
              rw [e]
              refine br_f (by decide) ⟨2 + 1, ?_⟩
              exact td_w_zo hd hn3 hn hL hP h3 (fun er tc3 c5 c6 c7 => br_t rfl (h0 er tc3 c5 c6 c7)) (fun g3 dg3 ch3 T3 c3 er tc3 c5 c6 c7 hR3 => br_f (by decide) (h1 g3 dg3 ch3 T3 c3 er tc3 c5 c6 c7 hR3)) 2 0 g2 dg2 ch2 T2 c2 tc2 b5' b6' b7' (by omega) hR2 hm2
    · refine pk_le 49 i (fun h => absurd h (by omega)) (fun _ => ⟨pk_in i 49 hi, nm_e (nm_r (nI_1 i) (hw _ ?_))⟩)
      rw [nI_clamp (show i < 2 ^ 31 by omega)]
      intro j hj
      by_cases e : j = i
      · rw [e, pk_us]
      · rw [pk_un e]
        exact hs j (by omega)
  unfold wpX_build
  dsimp only
  refine pk_loop (fun m i (s : (Nat → Int32) × (Nat → Int32)) => wX_build_7 post (nI n) 0 ls tk tu m (nI i) a1 a2 a3 a4 s.1 s.2 a7 a8 a9 a10) (fun i s => ∀ j, j < i → s.1 j = nI j ∧ s.2 j = 0) n 0 (a5, a6) (by omega) (fun j hj => absurd hj (by omega)) (fun m s hs => ?_) (fun m i s hi hs hw => ?_)
  · exact pk_le n n (fun _ => H38 s.1 s.2 hs) (fun h => absurd h (by omega))
  · refine pk_le n i (fun h => absurd h (by omega)) (fun _ => ⟨pk_in i 7 (by omega), nm_e ⟨pk_in i 7 (by omega), nm_e (nm_r (nI_1 i) (hw (_, _) ?_))⟩⟩)
    rw [nI_clamp (show i < 2 ^ 31 by omega), td_b8 i (by omega)]
    intro j hj
    show upd s.1 i (nI i) j = nI j ∧ upd s.2 i 0 j = 0
    by_cases e : j = i
    · rw [e, pk_us, pk_us]
      exact ⟨rfl, rfl⟩
    · rw [pk_un e, pk_un e]
      exact hs j (by omega)
end
end
section
/-! the walks of examine and what it calls -/
theorem td_spw (s p a : Nat) : (nI s - nI (2048 * a)) + td_p p = nI (s + p) - nI (2048 * (a + 1)) := by
  unfold td_p
  rw [← nI_add s p, Nat.mul_add, ← nI_add]
  generalize nI s = x
  generalize nI p = y
  generalize nI (2048 * a) = z
  rw [show nI (2048 * 1) = nI 2048 from rfl]
  generalize nI 2048 = w
  grind
theorem td_bnd {p st g : Nat} (h : 2 * st ≤ p + st * g) : td_p p + nI st * (nI g - 2) = td_p (p + st * g - 2 * st) := by
  unfold td_p
  rw [← pk_sub h, ← nI_add, ← pk_mul, ← pk_mul, show (2 : Int32) = nI 2 from rfl]
  generalize nI p = x
  generalize nI st = y
  generalize nI g = z
  generalize nI 2 = t
  generalize nI 2048 = w
  grind
theorem td_sp_le (pn : Nat) : ∀ k a s, td_sp pn k a s ≤ s + k * 4095 := by
  intro k
  induction k with
  | zero => exact fun a s => Nat.le_add_right s _
  | succ k ih =>
    intro a s
    rw [td_sp_s]
    have := ih (a + 1) (s + td_g 4096 pn a)
    have := td_g_lt (B := 4096) (by omega) pn a
    omega
theorem td_it_01 (dg : Nat) : ∀ k a, td_it dg k a = 0 ∨ td_it dg k a = 1 := by
  intro k
  induction k with
  | zero => exact fun a => Or.inr rfl
  | succ k ih =>
    intro a
    rw [td_it_s]
    by_cases e : td_g 16 dg a = 2
    · rw [td_e_t e]
      exact ih (a + 1)
    · rw [td_e_f e]
      exact Or.inl rfl
/-- the field 'least' -/
noncomputable def td_ls (n d f : Nat) : Int32 := td_e f 0 1000000 (nI (n * d))
theorem td_PN0 : ∀ j, j < 7 → td_g 4096 9673768316759992380164096 j = 2048 := by decide +kernel
section
variable {n d pn nw : Nat} {tc ls tk tu : Int32} {a1 a2 a3 a4 a5 a6 a7 a8 a9 a10 : Nat → Int32}
theorem td_w_sp {post : Int32 → Prop} {r : Nat} (hn : n ≤ 7) (hP : td_P n pn a4) (hp : post (2 * (nI r - nI (2048 * n)))) : ∀ k a s, a + k = n → td_sp pn k a s = r →
    wX_twicePenalties_4 post (nI n) tc ls tk tu a1 a2 a3 a4 a5 a6 a7 a8 a9 a10 (k + 1) (nI s - nI (2048 * a)) (nI a) := by
  intro k
  induction k with
  | zero =>
    intro a s ha hm
    have e : s = r := hm
    have e2 : a = n := by omega
    subst e
    subst e2
    exact pk_le a a (fun _ => hp) (fun h => absurd h (by omega))
  | succ k ih =>
    intro a s ha hm
    rw [td_sp_s] at hm
    refine pk_le n a (fun h => absurd h (by omega)) (fun _ => ⟨pk_in a 7 (by omega), ?_⟩)
    rw [nI_clamp (show a < 2 ^ 31 by omega), hP a (by omega)]
    exact nm_r (td_spw s _ a) (nm_r (nI_1 a) (ih (a + 1) _ (by omega) hm))
theorem td_w_tp {post : Int32 → Prop} (hn : n ≤ 7) (hP : td_P n pn a4) (hp : post (2 * (nI (td_sp pn n 0 0) - nI (2048 * n)))) : wpX_twicePenalties post (nI n, tc, ls, tk, tu, a1, a2, a3, a4, a5, a6, a7, a8, a9, a10) := by
  have z := td_w_sp (tc := tc) (ls := ls) (tk := tk) (tu := tu) (a1 := a1) (a2 := a2) (a3 := a3) (a5 := a5) (a6 := a6) (a7 := a7) (a8 := a8) (a9 := a9) (a10 := a10) hn hP hp n 0 0 (by omega) rfl
  rw [show nI 0 - nI (2048 * 0) = (0 : Int32) from by decide] at z
  exact ⟨n + 1, z⟩
theorem td_w_it {post : Int32 → Prop} {dg r : Nat} (hn : n ≤ 7) (h6 : td_A 16 n dg a6) (hp : post (nI r)) : ∀ k a, a + k = n → td_it dg k a = r →
    wX_isTour_2 post (nI n) tc ls tk tu a1 a2 a3 a4 a5 a6 a7 a8 a9 a10 (k + 1) (nI a) := by
  intro k
  induction k with
  | zero =>
    intro a ha hm
    have e : 1 = r := hm
    subst e
    exact pk_le n a (fun _ => hp) (fun h => absurd h (by omega))
  | succ k ih =>
    intro a ha hm
    rw [td_it_s] at hm
    refine pk_le n a (fun h => absurd h (by omega)) (fun _ => ⟨pk_in a 7 (by omega), ?_⟩)
    rw [nI_clamp (show a < 2 ^ 31 by omega), h6 a (by omega)]
    refine pk_eq (td_g 16 dg a) 2 (fun e => ?_) (fun e => ?_) rfl rfl (td_gb (by omega) (by omega) _ _) (by omega)
    · rw [td_e_t e] at hm
      exact nm_r (nI_1 a) (ih (a + 1) (by omega) hm)
    · rw [td_e_f e] at hm
      subst hm
      exact hp
theorem td_w_bn {post : St2 → Prop} {dg st pn' : Nat} (hn : n ≤ 7) (h6 : td_A 16 n dg a6) (hp : ∀ a4', td_P n pn' a4' → post (nI n, tc, ls, tk, tu, a1, a2, a3, a4', a5, a6, a7, a8, a9, a10)) :
    ∀ k a pn a4, a + k = n → td_P n pn a4 → td_bn dg st k a pn = some pn' → wX_bend_2 post (nI st) (nI n) tc ls tk tu (k + 1) (nI a) a1 a2 a3 a4 a5 a6 a7 a8 a9 a10 := by
  intro k
  induction k with
  | zero =>
    intro a pn a4 ha hP hm
    have e : pn = pn' := Option.some.inj hm
    subst e
    exact pk_le n a (fun _ => hp a4 hP) (fun h => absurd h (by omega))
  | succ k ih =>
    intro a pn a4 ha hP hm
    rw [td_bn_s] at hm
    refine pk_le n a (fun h => absurd h (by omega)) (fun _ => ⟨pk_in a 7 (by omega), pk_in a 7 (by omega), pk_in a 7 (by omega), ?_⟩)
    rw [nI_clamp (show a < 2 ^ 31 by omega), hP a (by omega), h6 a (by omega)]
    by_cases e1 : 2 * st ≤ td_g 4096 pn a + st * td_g 16 dg a
    · rw [td_l_t e1] at hm
      by_cases e2 : td_g 4096 pn a + st * td_g 16 dg a - 2 * st ≤ 4095
      · rw [td_l_t e2] at hm
        exact nm_e (nm_r (nI_1 a) (ih (a + 1) _ _ (by omega) (td_Ps hP (td_bnd e1) (by omega)) hm))
      · rw [td_l_f e2] at hm
        exact absurd hm.symm (Option.some_ne_none _)
    · rw [td_l_f e1] at hm
      exact absurd hm.symm (Option.some_ne_none _)
theorem td_w_li {post : Int32 → Prop} {J : Int32 → Prop} {dg ch a l : Nat} (hn : n ≤ 7) (ha : a < n) (h3 : td_A 4 49 nw a3) (h6 : td_A 16 n dg a6) (h7 : td_A 2 49 ch a7)
    (h0 : l = 0 → J (nI (a + 1))) (h1 : ∀ m, l = m + 1 → post (nI m)) : ∀ k b, b + k = n → td_li nw dg ch a k b = l →
    wX_linkToBranch_12 post J (nI a) (nI n) tc ls tk tu a1 a2 a3 a4 a5 a6 a7 a8 a9 a10 (k + 1) (nI b) := by
  intro k
  induction k with
  | zero =>
    intro b hb hm
    exact pk_le n b (fun _ => nm_r (nI_1 a) (h0 hm.symm)) (fun h => absurd h (by omega))
  | succ k ih =>
    intro b hb hm
    rw [td_li_s] at hm
    have N := fun hh => ih (b + 1) (by omega) hh
    refine pk_le n b (fun h => absurd h (by omega)) (fun _ => nm_r (td_ix a b) ⟨pk_in a 7 (by omega), ?_⟩)
    rw [nI_clamp (show a < 2 ^ 31 by omega), nI_clamp (show a * 7 + b < 2 ^ 31 by omega), h6 a ha, h7 _ (by omega), h3 _ (by omega)]
    refine pk_le (td_g 16 dg a) 2 (fun e => ?_) (fun e => ⟨pk_in (a * 7 + b) 49 (by omega), ?_⟩) rfl rfl (td_gb (by omega) (by omega) _ _) (by omega)
    · rw [td_l_t e] at hm
      exact nm_r (nI_1 b) (N hm)
    · rw [td_l_f (by omega)] at hm
      refine pk_eq (td_g 2 ch (a * 7 + b)) 0 (fun e2 => ?_) (fun e2 => ⟨pk_in (a * 7 + b) 49 (by omega), ?_⟩) rfl rfl (td_gb (by omega) (by omega) _ _) (by omega)
      · rw [td_e_t e2] at hm
        exact nm_r (nI_1 b) (N hm)
      · rw [td_e_f e2] at hm
        refine pk_eq (td_g 4 nw (a * 7 + b)) 0 (fun e3 => ?_) (fun e3 => ?_) rfl rfl (td_gb (by omega) (by omega) _ _) (by omega)
        · rw [td_e_t e3] at hm
          exact h1 _ hm.symm
        · rw [td_e_f e3] at hm
          exact nm_r (nI_1 b) (N hm)
theorem td_w_lo {post : Int32 → Prop} {dg ch l : Nat} (hn : n ≤ 7) (h3 : td_A 4 49 nw a3) (h6 : td_A 16 n dg a6) (h7 : td_A 2 49 ch a7)
    (hp : post (td_n l)) : ∀ k a, a + k = n → td_lo n nw dg ch k a = l → wX_linkToBranch_2 post (nI n) tc ls tk tu a1 a2 a3 a4 a5 a6 a7 a8 a9 a10 (k + 1) (nI a) := by
  intro k
  induction k with
  | zero =>
    intro a ha hm
    have e : 0 = l := hm
    subst e
    rw [td_n0] at hp
    exact pk_le n a (fun _ => hp) (fun h => absurd h (by omega))
  | succ k ih =>
    intro a ha hm
    rw [td_lo_s] at hm
    refine pk_le n a (fun h => absurd h (by omega)) (fun _ => ⟨n + 1, ?_⟩)
    refine td_w_li (l := td_li nw dg ch a n 0) hn (by omega) h3 h6 h7 (fun e => ?_) (fun m e => ?_) n 0 (by omega) rfl
    · rw [td_e_t e] at hm
      exact ih (a + 1) (by omega) hm
    · rw [td_e_f (by omega), e] at hm
      subst hm
      rw [td_ns] at hp
      exact hp
theorem td_w_el {post : Int32 → St2 → Prop} {fnd l f' : Nat} (hd : d ≤ 99) (hn3 : 3 ≤ n) (hn : n ≤ 7) (hL : td_L d a1) (h3 : td_A 4 49 nw a3)
    (hp : ∀ tc' a4' a5' a6' a7', post (td_n l) (nI n, tc', td_ls n d f', tk, tu, a1, a2, a3, a4', a5', a6', a7', a8, a9, a10)) :
    ∀ k st rd pn tc a4 a5 a6 a7, rd + k = 24 → st < 1000 → td_P n pn a4 → td_el n nw fnd k st pn = some (l, f') →
      wX_examine_28 post (k + 1) (nI st) (nI rd) (nI n) tc (td_ls n d fnd) tk tu a1 a2 a3 a4 a5 a6 a7 a8 a9 a10 := by
  have hnd : n * d ≤ 693 := Nat.mul_le_mul hn hd
  intro k
  induction k with
  | zero =>
    intro st rd pn tc a4 a5 a6 a7 _ _ _ hm
    exact absurd hm.symm (Option.some_ne_none _)
  | succ k ih =>
    intro st rd pn tc a4 a5 a6 a7 hrd hst hP hm
    rw [td_el_s] at hm
    refine pk_le 24 rd (fun h => absurd h (by omega)) (fun _ => ?_)
    cases hb : td_bu n pn nw with
    | none =>
      rw [hb] at hm
      exact absurd hm.symm (Option.some_ne_none _)
    | some r =>
      rw [hb] at hm
      refine td_w_bu hd hn3 hn hL hP h3 (fun er tc' a5' a6' a7' => ?_) (fun g dg ch T c er tc' a5' a6' a7' hR => br_f (by decide) ?_) hb
      · rw [er] at hm
        have hm' : some (0, fnd) = some (l, f') := hm
        cases hm'
        refine br_t rfl ?_
        rw [td_n0] at hp
        exact hp _ _ _ _ _
      · rw [er] at hm
        have hm2 : td_e c n
            (td_l T (2 * td_sp pn n 0 0 + 900000)
                (td_e fnd 0
                  (td_e (td_it dg n 0) 0
                    (td_e k 0 (some (td_lo n nw dg ch n 0, 0))
                      (td_k4 (fun pn' => td_el n nw fnd k (td_l st 2 1 (st - st / 4)) pn') (td_bn dg st n 0 pn)))
                    (td_e T (2 * td_sp pn n 0 0) (some (0, 1)) none))
                  (td_l (2 * td_sp pn n 0 0) T (some (0, fnd)) none))
                none)
            none = some (l, f') := hm
        clear hm
        obtain ⟨h5, h6, h7, ht⟩ := hR
        have ec : c = n := by
          by_cases e : c = n
          · exact e
          · rw [td_e_f e] at hm2
            exact absurd hm2.symm (Option.some_ne_none _)
        rw [td_e_t ec] at hm2
        subst ec
        have eT : T ≤ 2 * td_sp pn c 0 0 + 900000 := by
          by_cases e : T ≤ 2 * td_sp pn c 0 0 + 900000
          · exact e
          · rw [td_l_f e] at hm2
            exact absurd hm2.symm (Option.some_ne_none _)
        rw [td_l_t eT] at hm2
        have hS := td_sp_le pn c 0 0
        have hS2 : td_sp pn c 0 0 ≤ 28665 := by omega
        have hbi : (nI (c * d + T) - nI (2 * td_sp pn c 0 0)).toInt = ((c * d + T : Nat) : Int) - ((2 * td_sp pn c 0 0 : Nat) : Int) := pk_sub_toInt (by omega) (by omega)
        refine td_w_tp hn hP (nm_r (by rw [ht, td_bd]) ?_)
        by_cases ef : fnd = 0
        · rw [td_e_t ef] at hm2
          subst ef
          refine br_t (?_ : nI (c * d + T) - nI (2 * td_sp pn c 0 0) < td_ls c d 0) ⟨c + 1, td_w_it (r := td_it dg c 0) hn h6 ?_ c 0 (by omega) rfl⟩
          · rw [show td_ls c d 0 = 1000000 from td_e_t rfl, Int32.lt_iff_toInt_lt, hbi, show (1000000 : Int32).toInt = 1000000 from by decide]
            omega
          · rcases td_it_01 dg c 0 with ei | ei
            · rw [td_e_t ei] at hm2
              rw [ei]
              refine br_t rfl ?_
              by_cases ek : k = 0
              · rw [td_e_t ek] at hm2
                subst ek
                cases hm2
                refine pk_le 23 rd (fun _ => nm_r (nI_1 rd) (pk_le 24 (rd + 1) (fun _ => ⟨c + 1, ?_⟩) (fun h => absurd h (by omega)))) (fun h => absurd h (by omega))
                exact td_w_lo hn h3 h6 h7 (hp _ _ _ _ _) c 0 (by omega) rfl
              · rw [td_e_f ek] at hm2
                refine pk_le 23 rd (fun h => absurd h (by omega)) (fun _ => ⟨c + 1, ?_⟩)
                cases hbn : td_bn dg st c 0 pn with
                | none =>
                  rw [hbn] at hm2
                  exact absurd hm2.symm (Option.some_ne_none _)
                | some pn' =>
                  rw [hbn] at hm2
                  have hm3 : td_el c nw 0 k (td_l st 2 1 (st - st / 4)) pn' = some (l, f') := hm2
                  refine td_w_bn hn h6 (fun a4' hP' => ?_) c 0 pn a4 (by omega) hP hbn
                  refine pk_le st 2 (fun e => ?_) (fun e => ?_)
                  · rw [td_l_t e] at hm3
                    exact nm_r (nI_1 rd) (ih 1 (rd + 1) pn' tc' a4' a5' a6' a7' (by omega) (by omega) hP' hm3)
                  · rw [td_l_f (by omega)] at hm3
                    refine nm_r ?_ (nm_r (nI_1 rd) (ih (st - st / 4) (rd + 1) pn' tc' a4' a5' a6' a7' (by omega) (by omega) hP' hm3))
                    rw [pk_shrN (by omega) _ 2 (by decide), pk_sub (Nat.div_le_self st _)]
            · rw [td_e_f (by omega)] at hm2
              rw [ei]
              refine br_f (by decide) ?_
              have e2 : T = 2 * td_sp pn c 0 0 := by
                by_cases e : T = 2 * td_sp pn c 0 0
                · exact e
                · rw [td_e_f e] at hm2
                  exact absurd hm2.symm (Option.some_ne_none _)
              rw [td_e_t e2] at hm2
              cases hm2
              rw [td_n0, show td_ls c d 1 = nI (c * d) from td_e_f (by decide)] at hp
              rw [← e2, pk_sub (Nat.le_add_left T _), Nat.add_sub_cancel]
              exact hp _ _ _ _ _
        · rw [td_e_f ef] at hm2
          have e2 : 2 * td_sp pn c 0 0 ≤ T := by
            by_cases e : 2 * td_sp pn c 0 0 ≤ T
            · exact e
            · rw [td_l_f e] at hm2
              exact absurd hm2.symm (Option.some_ne_none _)
          rw [td_l_t e2] at hm2
          cases hm2
          rw [td_n0] at hp
          refine br_f ?_ (hp _ _ _ _ _)
          rw [show td_ls c d fnd = nI (c * d) from td_e_f ef, Int32.lt_iff_toInt_lt, hbi, nI_toInt (by omega)]
          omega
/-- examine -/
theorem td_w_ex {post : Int32 → St2 → Prop} {fnd l f' : Nat} (hd : d ≤ 99) (hn3 : 3 ≤ n) (hn : n ≤ 7) (hL : td_L d a1) (h3 : td_A 4 49 nw a3)
    (hm : td_el n nw fnd 24 32 9673768316759992380164096 = some (l, f'))
    (hp : ∀ tc' a4' a5' a6' a7', post (td_n l) (nI n, tc', td_ls n d f', tk, tu, a1, a2, a3, a4', a5', a6', a7', a8, a9, a10)) : wpX_examine post (nI n, tc, td_ls n d fnd, tk, tu, a1, a2, a3, a4, a5, a6, a7, a8, a9, a10) := by
  unfold wpX_examine
  dsimp only
  refine pk_loop (fun m i s => wX_examine_2 post (nI n) tc (td_ls n d fnd) tk tu m (nI i) a1 a2 a3 s a5 a6 a7 a8 a9 a10) (fun i s => ∀ j, j < i → s j = 0) n 0 a4 (by omega) (fun j hj => absurd hj (by omega)) (fun m s hs => ?_) (fun m i s hi hs hw => ?_)
  · refine pk_le n n (fun _ => ⟨24 + 1, ?_⟩) (fun h => absurd h (by omega))
    refine td_w_el hd hn3 hn hL h3 hp 24 32 0 _ tc s a5 a6 a7 (by omega) (by omega) (fun j hj => ?_) hm
    rw [hs j hj, td_PN0 j (by omega)]
    rfl
  · refine pk_le n i (fun h => absurd h (by omega)) (fun _ => ⟨pk_in i 7 (by omega), nm_e (nm_r (nI_1 i) (hw _ ?_))⟩)
    rw [nI_clamp (show i < 2 ^ 31 by omega)]
    intro j hj
    by_cases e : j = i
    · rw [e, pk_us]
    · rw [pk_un e]
      exact hs j (by omega)
end
end
section
/-! the walks of decide, backUp and solve -/
section
variable {n d nw : Nat} {tc ls tk tu : Int32} {a1 a2 a3 a4 a5 a6 a7 a8 a9 a10 : Nat → Int32}
theorem td_w_dc {post : St2 → Prop} {a b r : Nat} {y : Int32} (ha : a < 7) (hb : b < 7) (hr : r < 4) (hy : y = nI r) (h3 : td_A 4 49 nw a3)
    (hp : ∀ a3', td_A 4 49 (td_dc nw a b r) a3' → post (nI n, tc, ls, tk, tu, a1, a2, a3', a4, a5, a6, a7, a8, a9, a10)) : wpX_decide post (nI n, tc, ls, tk, tu, a1, a2, a3, a4, a5, a6, a7, a8, a9, a10) (nI a) (nI b) y := by
  subst hy
  unfold wpX_decide
  dsimp only
  rw [td_ix, td_ix, nI_clamp (show a * 7 + b < 2 ^ 31 by omega), nI_clamp (show b * 7 + a < 2 ^ 31 by omega), td_b8 r (by omega)]
  refine ⟨pk_in (a * 7 + b) 49 (by omega), nm_e ⟨pk_in (b * 7 + a) 49 (by omega), nm_e (hp _ ?_)⟩⟩
  rw [td_dc_eq]
  exact td_As (td_As h3 rfl hr) rfl hr
theorem td_w_bk {post : Int32 → St2 → Prop} {bl bb lv nw' bb' : Nat}
    (h0 : lv = 0 → ∀ a3', td_A 4 49 nw' a3' → post (-1) (nI n, tc, ls, tk, tu, a1, a2, a3', a4, a5, a6, a7, a8, a9, a10))
    (h1 : ∀ m, lv = m + 1 → ∀ a3' a9', td_A 4 49 nw' a3' → td_A 64 (m + 1) bl a8 → td_A 2 (m + 1) bb' a9' → m < 24 → post (nI (m + 1)) (nI n, tc, ls, tk, tu, a1, a2, a3', a4, a5, a6, a7, a8, a9', a10)) :
    ∀ t nw a3, t ≤ 24 → td_A 4 49 nw a3 → td_A 64 t bl a8 → td_A 2 t bb a9 → td_bk bl bb t nw = some (lv, nw', bb') →
      wX_backUp_4 post (t + 1) (td_n t) (nI n) tc ls tk tu a1 a2 a3 a4 a5 a6 a7 a8 a9 a10 := by
  intro t
  induction t with
  | zero =>
    intro nw a3 _ h3 h8 h9 hm
    have hm' : some (0, nw, bb) = some (lv, nw', bb') := hm
    cases hm'
    exact br_t td_n_neg (br_f td_n_neg' (h0 rfl a3 h3))
  | succ t ih =>
    intro nw a3 ht h3 h8 h9 hm
    rw [td_bk_s] at hm
    have e1 : td_g 64 bl t ≤ 48 := by
      by_cases e : td_g 64 bl t ≤ 48
      · exact e
      · rw [td_l_f e] at hm
        exact absurd hm.symm (Option.some_ne_none _)
    rw [td_l_t e1] at hm
    rw [td_ns]
    have q8 := h8 t (by omega)
    have q9 := h9 t (by omega)
    refine br_f (nI_pos (by omega)) ⟨pk_in t 24 (by omega), ?_⟩
    rw [nI_clamp (show t < 2 ^ 31 by omega), q9, q8]
    refine pk_eq (td_g 2 bb t) 0 (fun e => ?_) (fun e => ?_) rfl rfl (td_gb (by omega) (by omega) _ _) (by omega)
    · rw [td_e_t e] at hm
      cases hm
      refine br_t (nI_pos' (by omega)) ⟨pk_in t 24 (by omega), nm_e ⟨pk_in t 24 (by omega), by decide, pk_in t 24 (by omega), by decide, ?_⟩⟩
      rw [nI_clamp (show t < 2 ^ 31 by omega), q8, show (7 : Int32) = nI 7 from rfl, pk_rem (by omega) (by omega) (by omega), pk_div (by omega) (by omega) (by omega)]
      refine td_w_dc (r := 1) (by omega) (by omega) (by omega) rfl h3 (fun a3' h3' => ?_)
      dsimp only
      rw [nI_1]
      exact h1 t rfl a3' _ h3' h8 (td_As h9 rfl (by omega)) (by omega)
    · rw [td_e_f e] at hm
      refine ⟨pk_in t 24 (by omega), by decide, pk_in t 24 (by omega), by decide, ?_⟩
      rw [show (7 : Int32) = nI 7 from rfl, pk_rem (by omega) (by omega) (by omega), pk_div (by omega) (by omega) (by omega)]
      refine td_w_dc (r := 0) (by omega) (by omega) (by omega) rfl h3 (fun a3' h3' => ?_)
      refine nm_r (show nI t + (-1) = td_n t from ?_) (ih _ a3' (by omega) h3' (fun i hi => h8 i (by omega)) (fun i hi => h9 i (by omega)) hm)
      unfold td_n
      grind
theorem td_w_sv {post : Int32 → St2 → Prop} {nw' bl' bb' : Nat} (hd : d ≤ 99) (hn3 : 3 ≤ n) (hn : n ≤ 7) (hL : td_L d a1)
    (hp : ∀ tc' a3' a4' a5' a6' a7' a8' a9', td_A 4 49 nw' a3' → post (nI (n * d)) (nI n, tc', nI (n * d), tk, tu, a1, a2, a3', a4', a5', a6', a7', a8', a9', a10)) :
    ∀ k lv rd nw bl bb fnd x2 tc a3 a4 a5 a6 a7 a8 a9, rd + k ≤ 4000000 → lv ≤ 25 → td_A 4 49 nw a3 → td_A 64 (lv - 1) bl a8 → td_A 2 (lv - 1) bb a9 → (lv ≠ 0 → x2 = 1) →
      td_sv n k lv nw bl bb fnd = some (0, nw', bl', bb', 1) →
      wX_solve_12 post (k + 1) (td_n lv) x2 (nI rd) (nI n) tc (td_ls n d fnd) tk tu a1 a2 a3 a4 a5 a6 a7 a8 a9 a10 := by
  have hnd : n * d ≤ 693 := Nat.mul_le_mul hn hd
  have hE : ∀ tc a3 a4 a5 a6 a7 a8 a9, td_A 4 49 nw' a3 → wX_solve_100 post (nI n) tc (td_ls n d 1) tk tu a1 a2 a3 a4 a5 a6 a7 a8 a9 a10 := by
    intro tc a3 a4 a5 a6 a7 a8 a9 h3
    rw [show td_ls n d 1 = nI (n * d) from td_e_f (by decide)]
    exact pk_eq (n * d) 1000000 (fun e => absurd e (by omega)) (fun _ => hp _ _ _ _ _ _ _ _ h3)
  intro k
  induction k with
  | zero =>
    intro lv rd nw bl bb fnd x2 tc a3 a4 a5 a6 a7 a8 a9 hrd hlv h3 h8 h9 hx hm
    have hm' : some (lv, nw, bl, bb, fnd) = some (0, nw', bl', bb', 1) := hm
    cases hm'
    exact pk_le 4194304 rd (fun _ => hE _ _ _ _ _ _ _ _ h3) (fun _ => br_t td_n_neg (hE _ _ _ _ _ _ _ _ h3))
  | succ k ih =>
    intro lv rd nw bl bb fnd x2 tc a3 a4 a5 a6 a7 a8 a9 hrd hlv h3 h8 h9 hx hm
    rw [td_sv_s] at hm
    by_cases el : lv = 0
    · rw [td_e_t el] at hm
      cases hm
      exact pk_le 4194304 rd (fun _ => hE _ _ _ _ _ _ _ _ h3) (fun _ => br_t td_n_neg (hE _ _ _ _ _ _ _ _ h3))
    · rw [td_e_f el] at hm
      have hx1 := hx el
      subst hx1
      obtain ⟨q, rfl⟩ : ∃ q, lv = q + 1 := ⟨lv - 1, by omega⟩
      rw [Nat.add_sub_cancel] at hm h8 h9
      rw [td_ns]
      refine pk_le 4194304 rd (fun h => absurd h (by omega)) (fun _ => br_f (nI_pos (by omega)) (br_f (by decide) ?_))
      rw [td_nd_eq] at hm
      cases hx : td_el n nw fnd 24 32 9673768316759992380164096 with
      | none =>
        rw [hx] at hm
        exact absurd hm.symm (Option.some_ne_none _)
      | some w =>
        rw [hx] at hm
        obtain ⟨l, f'⟩ := w
        have hm2 : td_k2 (fun lv' nw' bl' bb' f' => td_sv n k lv' nw' bl' bb' f') (td_e l 0
          (td_k5 (fun lv nw' bb' => td_e lv 0 (some (0, nw', bl, bb', f')) (some (lv + 1, nw', bl, bb', f'))) (td_bk bl bb q nw))
          (td_l 24 q none (td_l l 49
            (some (q + 2, td_dc nw ((l - 1) / 7) ((l - 1) % 7) 2, td_s 64 bl q (l - 1), td_s 2 bb q 0, f')) none))) = some (0, nw', bl', bb', 1) := hm
        clear hm
        refine td_w_ex hd hn3 hn hL h3 hx (fun tc' a4' a5' a6' a7' => ?_)
        by_cases e0 : l = 0
        · rw [td_e_t e0] at hm2
          subst e0
          refine br_t td_n_neg (nm_r rfl ⟨q + 1, ?_⟩)
          cases hk : td_bk bl bb q nw with
          | none =>
            rw [hk] at hm2
            exact absurd hm2.symm (Option.some_ne_none _)
          | some w =>
            rw [hk] at hm2
            obtain ⟨lv, nw2, bb2⟩ := w
            have hm3 : td_k2 (fun lv' nw' bl' bb' f' => td_sv n k lv' nw' bl' bb' f') (td_e lv 0 (some (0, nw2, bl, bb2, f')) (some (lv + 1, nw2, bl, bb2, f'))) = some (0, nw', bl', bb', 1) := hm2
            clear hm2
            refine td_w_bk (fun ev a3' h3' => ?_) (fun m ev a3' a9' h3' h8' h9' hm24 => ?_) q nw a3 (by omega) h3 h8 h9 hk
            · rw [td_e_t ev] at hm3
              have hm4 : td_sv n k 0 nw2 bl bb2 f' = some (0, nw', bl', bb', 1) := hm3
              have z := ih 0 (rd + 1) nw2 bl bb2 f' 0 tc' a3' a4' a5' a6' a7' a8 a9 (by omega) (by omega) h3' (fun i hi => absurd hi (by omega)) (fun i hi => absurd hi (by omega)) (fun h => absurd rfl h) hm4
              rw [td_n0] at z
              exact br_t (by decide) (nm_r (nI_1 rd) z)
            · rw [td_e_f (by omega)] at hm3
              subst ev
              have hm4 : td_sv n k (m + 2) nw2 bl bb2 f' = some (0, nw', bl', bb', 1) := hm3
              have z := ih (m + 2) (rd + 1) nw2 bl bb2 f' 1 tc' a3' a4' a5' a6' a7' a8 a9' (by omega) (by omega) h3' h8' h9' (fun _ => rfl) hm4
              rw [td_ns (m + 1)] at z
              exact br_f (nI_pos (by omega)) (nm_r (nI_1 rd) z)
        · rw [td_e_f e0] at hm2
          obtain ⟨m, rfl⟩ : ∃ m, l = m + 1 := ⟨l - 1, by omega⟩
          rw [Nat.add_sub_cancel] at hm2
          rw [td_ns]
          have e1 : ¬ 24 ≤ q := by
            intro e
            rw [td_l_t e] at hm2
            exact absurd hm2.symm (Option.some_ne_none _)
          rw [td_l_f e1] at hm2
          have e2 : m + 1 ≤ 49 := by
            by_cases e : m + 1 ≤ 49
            · exact e
            · rw [td_l_f e] at hm2
              exact absurd hm2.symm (Option.some_ne_none _)
          rw [td_l_t e2] at hm2
          have hm4 : td_sv n k (q + 2) (td_dc nw (m / 7) (m % 7) 2) (td_s 64 bl q m) (td_s 2 bb q 0) f' = some (0, nw', bl', bb', 1) := hm2
          refine br_f (nI_pos (by omega)) ⟨pk_in q 24 (by omega), nm_e ⟨pk_in q 24 (by omega), nm_e ⟨by decide, by decide, ?_⟩⟩⟩
          rw [nI_clamp (show q < 2 ^ 31 by omega), show (7 : Int32) = nI 7 from rfl, pk_rem (by omega) (by omega) (by omega), pk_div (by omega) (by omega) (by omega), td_b8 m (by omega)]
          refine td_w_dc (r := 2) (by omega) (by omega) (by omega) rfl h3 (fun a3' h3' => nm_r (nI_1 q) (nm_r (nI_1 rd) ?_))
          have g8 : td_A 64 (q + 1) (td_s 64 bl q m) (upd a8 q (nI m)) := by
            intro i hi
            by_cases e : i = q
            · rw [e, pk_us, td_gs (by omega) _ _ (by omega)]
            · rw [pk_un e, td_gn (by omega) _ e (by omega)]
              exact h8 i (by omega)
          have g9 : td_A 2 (q + 1) (td_s 2 bb q 0) (upd a9 q 0) := by
            intro i hi
            by_cases e : i = q
            · rw [e, pk_us, td_gs (by omega) _ _ (by omega)]
              rfl
            · rw [pk_un e, td_gn (by omega) _ e (by omega)]
              exact h9 i (by omega)
          have z := ih (q + 2) (rd + 1) _ _ _ f' 1 tc' a3' a4' a5' a6' a7' _ _ (by omega) (by omega) h3' g8 g9 (fun _ => rfl) hm4
          rw [td_ns (q + 1)] at z
          exact z
/-- solve, from rules that end as they began, a tour known -/
theorem td_w_solve {post : Int32 → St2 → Prop} {k nw' bl' bb' : Nat} (hd : d ≤ 99) (hn3 : 3 ≤ n) (hn : n ≤ 7) (hL : td_L d a1) (h3 : td_A 4 49 nw a3) (hk : k ≤ 4000000)
    (hm : td_sv n k 1 nw 0 0 0 = some (0, nw', bl', bb', 1))
    (hp : ∀ tc' a3' a4' a5' a6' a7' a8' a9', td_A 4 49 nw' a3' → post (nI (n * d)) (nI n, tc', nI (n * d), tk, tu, a1, a2, a3', a4', a5', a6', a7', a8', a9', a10)) : wpX_solve post (nI n, tc, ls, tk, tu, a1, a2, a3, a4, a5, a6, a7, a8, a9, a10) := by
  have z := td_w_sv (tk := tk) (tu := tu) (a2 := a2) (a10 := a10) hd hn3 hn hL hp k 1 0 nw 0 0 0 1 tc a3 a4 a5 a6 a7 a8 a9 (by omega) (by omega) h3 (fun i hi => absurd hi (by omega)) (fun i hi => absurd hi (by omega)) (fun _ => rfl) hm
  rw [show td_n 1 = 0 from by decide, show td_ls n d 0 = 1000000 from td_e_t rfl] at z
  exact ⟨k + 1, z⟩
end
end
section
/-! the walks of askPlainly, nextCity, findTour -/
theorem td_bit1 : ∀ j, j < 7 → ∀ b, b < 7 → b ≤ j → ¬ ((nI (2 ^ (j + 1) - 1) >>> (nI b &&& 31)) &&& 1) = 0 := by decide +kernel
theorem td_bit0 : ∀ j, j < 7 → ((nI (2 ^ (j + 1) - 1) >>> (nI (j + 1) &&& 31)) &&& 1) = 0 := by decide +kernel
theorem td_seen : ∀ j, j < 7 → nI (2 ^ (j + 1) - 1) ||| ((1 : Int32) <<< (nI (j + 1) &&& 31)) = nI (2 ^ (j + 1 + 1) - 1) := by decide +kernel
theorem td_pk0 : ∀ j, j < 6 → td_g 4 (td_pk j) (j * 7 + (j + 1)) = 0 := by decide +kernel
theorem td_pkb : ∀ j, j < 6 → td_dc (td_pk (j + 1)) j (j + 1) 0 = td_pk j := by decide +kernel
theorem td_pks (j : Nat) : td_pk (j + 1) = td_dc (td_pk j) j (j + 1) 1 := rfl
section
variable {n d : Nat} {tc ls tk tu : Int32} {a1 a2 a3 a4 a5 a6 a7 a8 a9 a10 : Nat → Int32}
theorem td_w_ask {post : St2 → Prop} (h2 : ∀ i, i < 49 → a2 i = 0) (hp : ∀ a3', td_A 4 49 0 a3' → post (nI n, tc, ls, tk, tu, a1, a2, a3', a4, a5, a6, a7, a8, a9, a10)) : wpX_askPlainly post (nI n, tc, ls, tk, tu, a1, a2, a3, a4, a5, a6, a7, a8, a9, a10) := by
  unfold wpX_askPlainly
  dsimp only
  refine pk_loop (fun m i s => wX_askPlainly_2 post (nI n) tc ls tk tu m (nI i) a1 a2 s a4 a5 a6 a7 a8 a9 a10) (fun i s => ∀ j, j < i → s j = 0) 49 0 a3 (by omega) (fun j hj => absurd hj (by omega)) (fun m s hs => ?_) (fun m i s hi hs hw => ?_)
  · refine pk_le 49 49 (fun _ => hp s (fun j hj => ?_)) (fun h => absurd h (by omega))
    rw [hs j hj, td_g_0]
    rfl
  · refine pk_le 49 i (fun h => absurd h (by omega)) (fun _ => ⟨pk_in i 49 hi, pk_in i 49 hi, nm_e (nm_r (nI_1 i) (hw _ ?_))⟩)
    rw [nI_clamp (show i < 2 ^ 31 by omega), h2 i hi]
    intro j hj
    by_cases e : j = i
    · rw [e, pk_us, vp_nar_byte]
      rfl
    · rw [pk_un e]
      exact hs j (by omega)
theorem td_w_nc {post : Int32 → St2 → Prop} {j : Nat} (hj : j + 1 < n) (hd : d ≤ 99) (hn3 : 3 ≤ n) (hn : n ≤ 7) (hL : td_L d a1) (hok : td_OK n) (h3 : td_A 4 49 (td_pk j) a3)
    (hp : ∀ tc' ls' a3' a4' a5' a6' a7' a8' a9', td_A 4 49 (td_pk j) a3' → post (nI (j + 1)) (nI n, tc', ls', tk, nI (n * d), a1, a2, a3', a4', a5', a6', a7', a8', a9', a10)) :
    ∀ i b, b + i = j + 1 → wX_nextCity_2 post (nI j) (nI (2 ^ (j + 1) - 1)) (i + 1) (nI b) (nI n) tc ls tk (nI (n * d)) a1 a2 a3 a4 a5 a6 a7 a8 a9 a10 := by
  intro i
  induction i with
  | zero =>
    intro b hb
    have e : b = j + 1 := by omega
    subst e
    refine pk_le n (j + 1) (fun h => absurd h (by omega)) (fun _ => ?_)
    rw [td_ix, nI_clamp (show j * 7 + (j + 1) < 2 ^ 31 by omega), h3 _ (by omega), td_pk0 j (by omega)]
    refine ⟨pk_in (j * 7 + (j + 1)) 49 (by omega), nm_e (br_t (td_bit0 j (by omega)) (br_f (by decide) ?_))⟩
    refine td_w_dc (r := 1) (by omega) (by omega) (by omega) rfl h3 (fun b3 hb3 => ?_)
    rw [← td_pks] at hb3
    obtain ⟨bl, bb, hs⟩ := hok (j + 1) hj
    refine td_w_solve hd hn3 hn hL hb3 (by omega) hs (fun tc' c3 a4' a5' a6' a7' a8' a9' hc3 => ?_)
    refine td_w_dc (r := 0) (by omega) (by omega) (by omega) rfl hc3 (fun e3 he3 => ?_)
    rw [td_pkb j (by omega)] at he3
    exact br_t rfl (hp _ _ _ _ _ _ _ _ _ he3)
  | succ i ih =>
    intro b hb
    refine pk_le n b (fun h => absurd h (by omega)) (fun _ => ?_)
    rw [td_ix]
    exact ⟨pk_in (j * 7 + b) 49 (by omega), nm_e (br_f (td_bit1 j (by omega) b (by omega) (by omega)) (nm_r (nI_1 b) (ih (b + 1) (by omega))))⟩
theorem td_w_ft {post : St2 → Prop} (hd : d ≤ 99) (hn3 : 3 ≤ n) (hn : n ≤ 7) (hL : td_L d a1) (hok : td_OK n)
    (hp : ∀ tc' ls' a3' a4' a5' a6' a7' a8' a9' a10', (∀ i, i < n → a10' i = nI i) → post (nI n, tc', ls', tk, nI (n * d), a1, a2, a3', a4', a5', a6', a7', a8', a9', a10')) :
    ∀ i j tc ls a3 a4 a5 a6 a7 a8 a9 a10, j + 1 + i = n → td_A 4 49 (td_pk j) a3 → (∀ q, q < j + 1 → a10 q = nI q) →
      wX_findTour_44 post (i + 1) (nI (2 ^ (j + 1) - 1)) (nI (j + 1)) (nI n) tc ls tk (nI (n * d)) a1 a2 a3 a4 a5 a6 a7 a8 a9 a10 := by
  intro i
  induction i with
  | zero =>
    intro j tc ls a3 a4 a5 a6 a7 a8 a9 a10 hj h3 h10
    exact pk_le n (j + 1) (fun _ => hp _ _ _ _ _ _ _ _ _ _ (fun q hq => h10 q (by omega))) (fun h => absurd h (by omega))
  | succ i ih =>
    intro j tc ls a3 a4 a5 a6 a7 a8 a9 a10 hj h3 h10
    refine pk_le n (j + 1) (fun h => absurd h (by omega)) (fun _ => ?_)
    rw [nI_pred, nI_clamp (show j < 2 ^ 31 by omega), nI_clamp (show j + 1 < 2 ^ 31 by omega), h10 j (by omega)]
    refine ⟨pk_in j 7 (by omega), j + 1 + 1, ?_⟩
    refine td_w_nc (by omega) hd hn3 hn hL hok h3 (fun tc' ls' a3' a4' a5' a6' a7' a8' a9' h3' => ?_) (j + 1) 0 (by omega)
    refine ⟨pk_in (j + 1) 7 (by omega), nm_e ⟨pk_in j 7 (by omega), ?_⟩⟩
    rw [td_b8 (j + 1) (by omega), pk_un (show j ≠ j + 1 by omega), h10 j (by omega)]
    refine td_w_dc (r := 1) (by omega) (by omega) (by omega) rfl h3' (fun b3 hb3 => nm_r (td_seen j (by omega)) (nm_r (nI_1 (j + 1)) ?_))
    rw [← td_pks] at hb3
    refine ih (j + 1) tc' ls' b3 a4' a5' a6' a7' a8' a9' _ (by omega) hb3 (fun q hq => ?_)
    by_cases e : q = j + 1
    · rw [e, pk_us]
    · rw [pk_un e]
      exact h10 q (by omega)
theorem td_w_find {post : St2 → Prop} (hd : d ≤ 99) (hn3 : 3 ≤ n) (hn : n ≤ 7) (hL : td_L d a1) (h2 : ∀ i, i < 49 → a2 i = 0) (hok : td_OK n)
    (hp : ∀ tc' ls' a3' a4' a5' a6' a7' a8' a9' a10', (∀ i, i < n → a10' i = nI i) → post (nI n, tc', ls', 1, nI (n * d), a1, a2, a3', a4', a5', a6', a7', a8', a9', a10')) :
    wpX_findTour post (nI n, tc, ls, 0, tu, a1, a2, a3, a4, a5, a6, a7, a8, a9, a10) := by
  have hnd : n * d ≤ 693 := Nat.mul_le_mul hn hd
  unfold wpX_findTour
  dsimp only
  refine br_t rfl (td_w_ask h2 (fun b3 hb3 => ?_))
  obtain ⟨bl, bb, hs⟩ := hok 0 (by omega)
  refine td_w_solve (nw := td_pk 0) hd hn3 hn hL hb3 (by omega) hs (fun tc' c3 a4' a5' a6' a7' a8' a9' hc3 => ?_)
  refine br_t (nI_pos' (by omega)) (nm_e ⟨n - 1 + 1, ?_⟩)
  refine td_w_ft hd hn3 hn hL hok hp (n - 1) 0 tc' _ c3 a4' a5' a6' a7' a8' a9' _ (by omega) hc3 (fun q hq => ?_)
  rw [show q = 0 by omega, pk_us]
  rfl
end
end
section
/-! the calls that the law makes -/
/-- a and b name a link -/
def td_K (n : Nat) (x y : Int32) : Prop := ¬ x < 0 ∧ ¬ nI n ≤ x ∧ ¬ y < 0 ∧ ¬ nI n ≤ y ∧ ¬ x = y
def td_Gd (n : Nat) (x y z : Int32) : Prop := td_K n x y ∧ ¬ z < 0 ∧ ¬ 2 < z
def td_Sp (n : Nat) (x z : Int32) : Prop := ¬ x < 0 ∧ ¬ nI n ≤ x ∧ ¬ z < (-99) ∧ ¬ 99 < z
theorem td_in {n : Nat} {x : Int32} (hn : n ≤ 7) (h0 : ¬ x < 0) (h1 : ¬ nI n ≤ x) : ∃ a, a < n ∧ x = nI a := by
  obtain ⟨a, ha, rfl⟩ := nI_of h0
  refine ⟨a, ?_, rfl⟩
  rcases Nat.lt_or_ge a n with h | h
  · exact h
  · exact absurd (nI_le h ha) h1
theorem td_K_of {n : Nat} {x y : Int32} (hn : n ≤ 7) (h : td_K n x y) : ∃ a b, a < n ∧ b < n ∧ x = nI a ∧ y = nI b := by
  obtain ⟨h1, h2, h3, h4, _⟩ := h
  obtain ⟨a, ha, ea⟩ := td_in hn h1 h2
  obtain ⟨b, hb, eb⟩ := td_in hn h3 h4
  exact ⟨a, b, ha, hb, ea, eb⟩
section
variable {n d : Nat} {tc ls tk tu : Int32} {a1 a2 a3 a4 a5 a6 a7 a8 a9 a10 : Nat → Int32}
theorem td_w_best {post : Int32 → St2 → Prop} (hd : d ≤ 99) (hn3 : 3 ≤ n) (hn : n ≤ 7) (hL : td_L d a1) (h2 : ∀ i, i < 49 → a2 i = 0) (hok : td_OK n)
    (hp : ∀ tc' ls' a3' a4' a5' a6' a7' a8' a9' a10', (∀ i, i < n → a10' i = nI i) → post (nI (n * d)) (nI n, tc', ls', 1, nI (n * d), a1, a2, a3', a4', a5', a6', a7', a8', a9', a10')) :
    wpX_best post (nI n, tc, ls, 0, tu, a1, a2, a3, a4, a5, a6, a7, a8, a9, a10) := by
  unfold wpX_best
  dsimp only
  exact td_w_find hd hn3 hn hL h2 hok (fun tc' ls' a3' a4' a5' a6' a7' a8' a9' a10' h => hp tc' ls' a3' a4' a5' a6' a7' a8' a9' a10' h)
theorem td_w_city {post : Int32 → St2 → Prop} {x : Int32} (hd : d ≤ 99) (hn : n ≤ 7) (h10 : ∀ i, i < n → a10 i = nI i)
    (h1 : x < 0 → post (-1) (nI n, tc, ls, 1, nI (n * d), a1, a2, a3, a4, a5, a6, a7, a8, a9, a10)) (h2 : ¬ x < 0 → nI n ≤ x → post (-1) (nI n, tc, ls, 1, nI (n * d), a1, a2, a3, a4, a5, a6, a7, a8, a9, a10)) (h3 : ¬ x < 0 → ¬ nI n ≤ x → post x (nI n, tc, ls, 1, nI (n * d), a1, a2, a3, a4, a5, a6, a7, a8, a9, a10)) :
    wpX_cityAt post (nI n, tc, ls, 1, nI (n * d), a1, a2, a3, a4, a5, a6, a7, a8, a9, a10) x := by
  have hnd : n * d ≤ 693 := Nat.mul_le_mul hn hd
  unfold wpX_cityAt
  dsimp only
  unfold wpX_findTour
  dsimp only
  refine br_f (by decide) (br_f (nI_pos (by omega)) (br_c h1 (fun hx => ?_)))
  obtain ⟨j, hj, rfl⟩ := nI_of hx
  refine pk_lt j n (fun e => ⟨pk_in j 7 (by omega), ?_⟩) (fun e => h2 hx (nI_le e hj))
  rw [nI_clamp hj, h10 j e]
  exact h3 hx (nI_ge e (by omega))
theorem td_w_lk {post : Int32 → Prop} {x y : Int32} (h1 : td_K n x y → post 1) (h0 : ¬ td_K n x y → post 0) : wpX_isLink post (nI n, tc, ls, tk, tu, a1, a2, a3, a4, a5, a6, a7, a8, a9, a10) x y :=
  br_c (fun e => h0 (fun z => z.1 e)) (fun e1 => br_c (fun e => h0 (fun z => z.2.1 e)) (fun e2 => br_c (fun e => h0 (fun z => z.2.2.1 e)) (fun e3 =>
    br_c (fun e => h0 (fun z => z.2.2.2.1 e)) (fun e4 => br_c (fun e => h0 (fun z => z.2.2.2.2 e)) (fun e5 => h1 ⟨e1, e2, e3, e4, e5⟩)))))
theorem td_w_len {post : Int32 → Prop} {x y : Int32} (hn : n ≤ 7) (hL : td_L d a1) (h1 : td_K n x y → post (nI d)) (h0 : ¬ td_K n x y → post (-1)) : wpX_length post (nI n, tc, ls, tk, tu, a1, a2, a3, a4, a5, a6, a7, a8, a9, a10) x y := by
  unfold wpX_length
  dsimp only
  refine td_w_lk (fun hk => br_f (by decide) ?_) (fun hk => br_t rfl (h0 hk))
  have h1' := h1 hk
  obtain ⟨a, b, ha, hb, rfl, rfl⟩ := td_K_of hn hk
  rw [td_ix, nI_clamp (show a * 7 + b < 2 ^ 31 by omega), hL _ (by omega)]
  exact ⟨pk_in (a * 7 + b) 49 (by omega), h1'⟩
theorem td_w_rule {post : Int32 → Prop} {x y : Int32} (hn : n ≤ 7) (h1 : td_K n x y → ∀ a b, a < 7 → b < 7 → x = nI a → y = nI b → post (a2 (a * 7 + b))) (h0 : ¬ td_K n x y → post (-1)) : wpX_rule post (nI n, tc, ls, tk, tu, a1, a2, a3, a4, a5, a6, a7, a8, a9, a10) x y := by
  unfold wpX_rule
  dsimp only
  refine td_w_lk (fun hk => br_f (by decide) ?_) (fun hk => br_t rfl (h0 hk))
  have h1' := h1 hk
  obtain ⟨a, b, ha, hb, rfl, rfl⟩ := td_K_of hn hk
  rw [td_ix, nI_clamp (show a * 7 + b < 2 ^ 31 by omega)]
  exact ⟨pk_in (a * 7 + b) 49 (by omega), h1' a b (by omega) (by omega) rfl rfl⟩
theorem td_w_set {post : Int32 → St2 → Prop} {x y z : Int32} (hn : n ≤ 7) (h0 : ¬ td_Gd n x y z → post 0 (nI n, tc, ls, tk, tu, a1, a2, a3, a4, a5, a6, a7, a8, a9, a10))
    (h1 : td_Gd n x y z → ∀ a2', (∀ a b, a < 7 → b < 7 → x = nI a → y = nI b → a2' (a * 7 + b) = z) → post 1 (nI n, tc, ls, 0, tu, a1, a2', a3, a4, a5, a6, a7, a8, a9, a10)) : wpX_setRule post (nI n, tc, ls, tk, tu, a1, a2, a3, a4, a5, a6, a7, a8, a9, a10) x y z := by
  unfold wpX_setRule
  dsimp only
  refine td_w_lk (fun hk => br_f (by decide) (br_c (fun e => h0 (fun w => w.2.1 e)) (fun e1 => ?_))) (fun hk => br_t rfl (h0 (fun w => hk w.1)))
  obtain ⟨c, hc, rfl⟩ := nI_of e1
  refine pk_le c 2 (fun e2 => ?_) (fun e2 => h0 (fun w => w.2.2 (nI_lt e2 hc)))
  have h1' := h1 ⟨hk, e1, nI_nlt (a := 2) (b := c) e2 (by decide)⟩
  obtain ⟨a, b, ha, hb, rfl, rfl⟩ := td_K_of hn hk
  rw [td_ix, td_ix, nI_clamp (show a * 7 + b < 2 ^ 31 by omega), nI_clamp (show b * 7 + a < 2 ^ 31 by omega), td_b8 c (by omega)]
  refine ⟨pk_in (a * 7 + b) 49 (by omega), nm_e ⟨pk_in (b * 7 + a) 49 (by omega), nm_e (h1' _ (fun a' b' ha' hb' ea eb => ?_))⟩⟩
  have ea' : a = a' := (nI_eq (by omega) (by omega)).mp ea
  have eb' : b = b' := (nI_eq (by omega) (by omega)).mp eb
  subst ea' eb'
  by_cases e : a * 7 + b = b * 7 + a
  · rw [e, pk_us]
  · rw [pk_un e, pk_us]
theorem td_w_sh0 {post : Int32 → St2 → Prop} {a : Nat} {x : Int32} (hn : n ≤ 7) (ha : a < n) (hL : td_L d a1) (hv : nI d + x < 0 ∨ 99 < nI d + x) (hp : post 0 (nI n, tc, ls, tk, tu, a1, a2, a3, a4, a5, a6, a7, a8, a9, a10)) :
    ∀ k b, b + k = n → wX_shift_31 post (nI a) x (k + 1) 0 (nI b) (nI n) tc ls tk tu a1 a2 a3 a4 a5 a6 a7 a8 a9 a10 := by
  intro k
  induction k with
  | zero =>
    intro b hb
    exact pk_le n b (fun _ => hp) (fun h => absurd h (by omega))
  | succ k ih =>
    intro b hb
    have N := ih (b + 1) (by omega)
    refine pk_le n b (fun h => absurd h (by omega)) (fun _ => ?_)
    rw [td_ix, nI_clamp (show a * 7 + b < 2 ^ 31 by omega), hL _ (by omega)]
    refine ⟨pk_in (a * 7 + b) 49 (by omega), nm_e (pk_eq b a (fun _ => nm_r (nI_1 b) N) (fun _ => ?_))⟩
    refine br_c (fun _ => nm_r (nI_1 b) N) (fun e => ?_)
    rcases hv with h | h
    · exact absurd h e
    · exact br_t h (nm_r (nI_1 b) N)
theorem td_w_sh1 {post : Int32 → St2 → Prop} {a : Nat} {x : Int32} (hn : n ≤ 7) (ha : a < n) (h1 : ¬ nI d + x < 0) (h2 : ¬ 99 < nI d + x) (hp : ∀ tk' a1', post (nI (n - 1)) (nI n, tc, ls, tk', tu, a1', a2, a3, a4, a5, a6, a7, a8, a9, a10)) :
    ∀ k b c tk a1, b + k = n → c = (if b ≤ a then b else b - 1) → (∀ q, b ≤ q → q < n → q ≠ a → a1 (a * 7 + q) = nI d) → wX_shift_31 post (nI a) x (k + 1) (nI c) (nI b) (nI n) tc ls tk tu a1 a2 a3 a4 a5 a6 a7 a8 a9 a10 := by
  intro k
  induction k with
  | zero =>
    intro b c tk a1 hb hc _
    rw [if_neg (by omega)] at hc
    subst hc
    have e : b = n := by omega
    subst e
    exact pk_le b b (fun _ => hp tk a1) (fun h => absurd h (by omega))
  | succ k ih =>
    intro b c tk a1 hb hc hq
    refine pk_le n b (fun h => absurd h (by omega)) (fun _ => ?_)
    rw [td_ix, nI_clamp (show a * 7 + b < 2 ^ 31 by omega)]
    refine ⟨pk_in (a * 7 + b) 49 (by omega), nm_e (pk_eq b a (fun e => nm_r (nI_1 b) (ih (b + 1) c tk a1 (by omega) ?_ (fun q h => hq q (by omega)))) (fun e => ?_))⟩
    · rw [if_pos (by omega)] at hc
      rw [if_neg (by omega)]
      omega
    · rw [hq b (by omega) (by omega) e]
      refine br_f h1 (br_f h2 ?_)
      unfold wpX_putLength
      dsimp only
      rw [td_ix, td_ix, nI_clamp (show a * 7 + b < 2 ^ 31 by omega), nI_clamp (show b * 7 + a < 2 ^ 31 by omega)]
      refine ⟨pk_in (a * 7 + b) 49 (by omega), nm_e ⟨pk_in (b * 7 + a) 49 (by omega), nm_e (nm_r (nI_1 c) (nm_r (nI_1 b) (ih (b + 1) (c + 1) 0 _ (by omega) ?_ (fun q hq1 hq2 hq3 => ?_))))⟩⟩
      · rw [hc]
        by_cases e2 : b ≤ a
        · rw [if_pos e2, if_pos (by omega)]
        · rw [if_neg e2, if_neg (by omega)]
          omega
      · rw [pk_un (by omega), pk_un (by omega)]
        exact hq q (by omega) hq2 hq3
theorem td_w_shift {post : Int32 → St2 → Prop} {x z : Int32} (hn : n ≤ 7) (hL : td_L d a1) (h0 : ¬ td_Sp n x z → post (-1) (nI n, tc, ls, tk, tu, a1, a2, a3, a4, a5, a6, a7, a8, a9, a10))
    (h1 : td_Sp n x z → (nI d + z < 0 ∨ 99 < nI d + z) → post 0 (nI n, tc, ls, tk, tu, a1, a2, a3, a4, a5, a6, a7, a8, a9, a10))
    (h2 : td_Sp n x z → ¬ nI d + z < 0 → ¬ 99 < nI d + z → ∀ tk' a1', post (nI (n - 1)) (nI n, tc, ls, tk', tu, a1', a2, a3, a4, a5, a6, a7, a8, a9, a10)) : wpX_shift post (nI n, tc, ls, tk, tu, a1, a2, a3, a4, a5, a6, a7, a8, a9, a10) x z := by
  unfold wpX_shift
  dsimp only
  refine br_c (fun e => h0 (fun w => w.1 e)) (fun e1 => br_c (fun e => h0 (fun w => w.2.1 e)) (fun e2 => br_c (fun e => h0 (fun w => w.2.2.1 e)) (fun e3 => br_c (fun e4 => ?_) (fun e4 => h0 (fun w => e4 (Int32.not_lt.mp w.2.2.2))))))
  have hs : td_Sp n x z := ⟨e1, e2, e3, Int32.not_lt.mpr e4⟩
  have h1' := h1 hs
  have h2' := h2 hs
  obtain ⟨a, ha, rfl⟩ := td_in hn e1 e2
  by_cases g1 : nI d + z < 0
  · exact ⟨n + 1, td_w_sh0 hn ha hL (Or.inl g1) (h1' (Or.inl g1)) n 0 (by omega)⟩
  · by_cases g2 : 99 < nI d + z
    · exact ⟨n + 1, td_w_sh0 hn ha hL (Or.inr g2) (h1' (Or.inr g2)) n 0 (by omega)⟩
    · exact ⟨n + 1, td_w_sh1 hn ha g1 g2 (h2' g1 g2) n 0 0 tk a1 (by omega) (by rw [if_pos (by omega)]) (fun q _ hq _ => hL _ (by omega))⟩
end
end
section
/-! the law's own rows -/
/-- a flag of the law -/
def td_fl (x : Int32) (P : Prop) : Prop := (x = 0 ∧ ¬ P) ∨ (x = 1 ∧ P)
theorem td_fl0 {P : Prop} (h : ¬ P) : td_fl 0 P := Or.inl ⟨rfl, h⟩
theorem td_fl1 {P : Prop} (h : P) : td_fl 1 P := Or.inr ⟨rfl, h⟩
theorem td_fln {x : Int32} {P : Prop} (h : td_fl x P) (e : x = 0) : ¬ P := by
  rcases h with h | h
  · exact h.2
  · rw [h.1] at e
    exact absurd e (by decide)
theorem td_flp {x : Int32} {P : Prop} (h : td_fl x P) (e : ¬ x = 0) : P := by
  rcases h with h | h
  · exact absurd h.1 e
  · exact h.2
/-- what the calls answered -/
def td_Sc (K G P : Prop) (x4 x6 x7 x8 x9 x10 x11 x12 x13 : Int32) : Prop :=
  x8 = x6 * x7 ∧ (x4 < 0 → x9 = -1) ∧ (¬ x4 < 0 → x6 ≤ x4 → x9 = -1) ∧ (¬ x4 < 0 → ¬ x6 ≤ x4 → x9 = x4) ∧ (K → x10 = x7) ∧ (¬ K → x10 = -1) ∧
  (G → x11 = 1) ∧ (¬ G → x11 = 0) ∧ (¬ K → x12 = -1) ∧ (K → ¬ G → x12 = 0) ∧ (G → x12 = x4) ∧
  (¬ P → x13 = -1) ∧ (P → x7 + x4 < 0 → x13 = 0) ∧ (P → 99 < x7 + x4 → x13 = 0) ∧ (P → ¬ x7 + x4 < 0 → ¬ 99 < x7 + x4 → x13 = x6 - 1)
section
variable {post : Int32 → St0 → Prop} {mc ms kc ks : Nat} {x2 x3 x4 x6 x7 x8 x9 x10 x11 x12 x13 x14 x15 x16 z0 z1 : Int32} {I K G P : Prop}
theorem td_l319 {x18 : Int32} (hp : post 1 ()) (e1 : z1 = z0) (e2 : x13 = x18) : wL_lawOf_319 post mc ms x13 x18 z0 z1 kc ks := br_t e1 (br_t e2 hp)
theorem td_l271 {x18 : Int32} (hp : post 1 ()) (S : td_Sc K G P x4 x6 x7 x8 x9 x10 x11 x12 x13) (f15 : td_fl x15 K) (f16 : td_fl x16 G) (e : z1 = z0) (e18 : x13 = x18) :
    wL_lawOf_271 post mc ms x4 x7 x10 x11 x12 x13 x15 x16 x18 z0 z1 kc ks := by
  obtain ⟨_, _, _, _, s10, s10', s11, s11', s12, s12', s12'', _⟩ := S
  have e11 : x11 = x16 := by
    rcases f16 with h | h
    · rw [s11' h.2, h.1]
    · rw [s11 h.2, h.1]
  exact br_t e (br_c
    (fun h => br_t (s10' (td_fln f15 h)) (br_t e11 (br_c (fun g => td_l319 hp (s12 (td_fln f15 g)) e18) (fun g => absurd h g))))
    (fun h => br_t (s10 (td_flp f15 h)) (br_t e11 (br_c (fun g => absurd g h) (fun g => br_c (fun u => td_l319 hp (s12' (td_flp f15 g) (td_fln f16 u)) e18) (fun u => td_l319 hp (s12'' (td_flp f16 u)) e18))))))
theorem td_l239 (hp : post 1 ()) (S : td_Sc K G P x4 x6 x7 x8 x9 x10 x11 x12 x13) (f15 : td_fl x15 K) (f16 : td_fl x16 G) (e18 : x13 = z0) :
    wL_lawOf_239 post mc ms x4 x6 x7 x8 x9 x10 x11 x12 x13 x15 x16 z0 kc ks :=
  br_t S.1 (br_c (fun h => td_l271 hp S f15 f16 (S.2.1 h) e18) (fun h => br_c (fun g => td_l271 hp S f15 f16 (S.2.2.1 h g) e18) (fun g => td_l271 hp S f15 f16 (S.2.2.2.1 h g) e18)))
theorem td_l202 (hp : post 1 ()) (S : td_Sc K G P x4 x6 x7 x8 x9 x10 x11 x12 x13) (f15 : td_fl x15 K) (f16 : td_fl x16 G) (fz : td_fl z0 P) :
    wL_lawOf_202 post mc ms x4 x6 x7 x8 x9 x10 x11 x12 x13 x15 x16 z0 kc ks := by
  have S' := S
  obtain ⟨_, _, _, _, _, _, _, _, _, _, _, s1, s2, s3, s4⟩ := S'
  exact br_c (fun h => td_l239 hp S f15 f16 (s1 (td_fln fz h))) (fun h => br_c (fun g => td_l239 hp S f15 f16 (s2 (td_flp fz h) g)) (fun g =>
    br_c (fun u => td_l239 hp S f15 f16 (s3 (td_flp fz h) u)) (fun u => td_l239 hp S f15 f16 (s4 (td_flp fz h) g u))))
theorem td_l176 (hp : post 1 ()) (S : td_Sc K G P x4 x6 x7 x8 x9 x10 x11 x12 x13) (hP : P ↔ I ∧ ¬ x4 < (-99) ∧ ¬ 99 < x4) (f14 : td_fl x14 I) (f15 : td_fl x15 K) (fz : td_fl z0 G) :
    wL_lawOf_176 post mc ms x4 x6 x7 x8 x9 x10 x11 x12 x13 x14 x15 z0 kc ks :=
  br_c (fun h => td_l202 hp S f15 fz (td_fl0 (fun p => td_fln f14 h (hP.mp p).1))) (fun h => br_c (fun g => td_l202 hp S f15 fz (td_fl0 (fun p => (hP.mp p).2.1 g))) (fun g =>
    br_c (fun u => td_l202 hp S f15 fz (td_fl0 (fun p => (hP.mp p).2.2 u))) (fun u => td_l202 hp S f15 fz (td_fl1 (hP.mpr ⟨td_flp f14 h, g, u⟩)))))
theorem td_l153 (hp : post 1 ()) (S : td_Sc K G P x4 x6 x7 x8 x9 x10 x11 x12 x13) (hP : P ↔ I ∧ ¬ x4 < (-99) ∧ ¬ 99 < x4) (hG : G ↔ K ∧ ¬ x4 < 0 ∧ ¬ 2 < x4) (f14 : td_fl x14 I) (fz : td_fl z0 K) :
    wL_lawOf_153 post mc ms x4 x6 x7 x8 x9 x10 x11 x12 x13 x14 z0 kc ks :=
  br_c (fun h => td_l176 hp S hP f14 fz (td_fl0 (fun p => td_fln fz h (hG.mp p).1))) (fun h => br_c (fun g => td_l176 hp S hP f14 fz (td_fl0 (fun p => (hG.mp p).2.1 g))) (fun g =>
    br_c (fun u => td_l176 hp S hP f14 fz (td_fl0 (fun p => (hG.mp p).2.2 u))) (fun u => td_l176 hp S hP f14 fz (td_fl1 (hG.mpr ⟨td_flp fz h, g, u⟩)))))
theorem td_l126 (hp : post 1 ()) (S : td_Sc K G P x4 x6 x7 x8 x9 x10 x11 x12 x13) (hP : P ↔ I ∧ ¬ x4 < (-99) ∧ ¬ 99 < x4) (hG : G ↔ K ∧ ¬ x4 < 0 ∧ ¬ 2 < x4)
    (hK : K ↔ I ∧ ¬ x3 < 0 ∧ ¬ x6 ≤ x3 ∧ ¬ x2 = x3) (fz : td_fl z0 I) :
    wL_lawOf_126 post mc ms x2 x3 x4 x6 x7 x8 x9 x10 x11 x12 x13 z0 kc ks :=
  br_c (fun h => td_l153 hp S hP hG fz (td_fl0 (fun p => td_fln fz h (hK.mp p).1))) (fun h => br_c (fun g => td_l153 hp S hP hG fz (td_fl0 (fun p => (hK.mp p).2.1 g))) (fun g =>
    br_c (fun u => td_l153 hp S hP hG fz (td_fl0 (fun p => (hK.mp p).2.2.1 u))) (fun u =>
      br_c (fun w => td_l153 hp S hP hG fz (td_fl0 (fun p => (hK.mp p).2.2.2 w))) (fun w => td_l153 hp S hP hG fz (td_fl1 (hK.mpr ⟨td_flp fz h, g, u, w⟩))))))
end
/-- the law behind the constructor -/
theorem td_l54 {post : Int32 → St0 → Prop} {mc ms kc ks n d : Nat} {x2 x3 x4 tc ls tu : Int32} {a1 a2 a3 a4 a5 a6 a7 a8 a9 a10 : Nat → Int32} (hp : post 1 ())
    (hd : d ≤ 99) (hn3 : 3 ≤ n) (hn : n ≤ 7) (hL : td_L d a1) (h2 : ∀ i, i < 49 → a2 i = 0) :
    wL_lawOf_54 post mc ms x2 x3 x4 (nI n) (nI d) kc ks (nI n) tc ls 0 tu a1 a2 a3 a4 a5 a6 a7 a8 a9 a10 := by
  unfold wL_lawOf_54
  refine td_w_best hd hn3 hn hL h2 (td_OK_all n hn3 hn) (fun tc1 ls1 b3 b4 b5 b6 b7 b8 b9 b10 hb10 => ?_)
  have main : ∀ r84, ((x4 < 0 → r84 = -1) ∧ (¬ x4 < 0 → nI n ≤ x4 → r84 = -1) ∧ (¬ x4 < 0 → ¬ nI n ≤ x4 → r84 = x4)) →
      wpX_length (fun r_120 => (wpX_setRule (fun r_121 u => match u with | (g0, g1, g2, g3, g4, c1, c2, c3, c4, c5, c6, c7, c8, c9, c10) => (wpX_rule (fun r_157 => (wpX_shift (fun r_158 u => match u with | (_, _, _, _, _, _, _, _, _, _, _, _, _, _, _) => (((x2 < 0 → (wL_lawOf_125 post mc ms x2 x3 x4 (nI n) (nI d) (nI (n * d)) r84 r_120 r_121 r_157 r_158 kc ks)) ∧ (¬ x2 < 0 → (((nI n ≤ x2 → (wL_lawOf_125 post mc ms x2 x3 x4 (nI n) (nI d) (nI (n * d)) r84 r_120 r_121 r_157 r_158 kc ks)) ∧ (¬ nI n ≤ x2 → (wL_lawOf_126 post mc ms x2 x3 x4 (nI n) (nI d) (nI (n * d)) r84 r_120 r_121 r_157 r_158 1 kc ks)))))))) (g0, g1, g2, g3, g4, c1, c2, c3, c4, c5, c6, c7, c8, c9, c10) x2 x4)) (g0, g1, g2, g3, g4, c1, c2, c3, c4, c5, c6, c7, c8, c9, c10) x2 x3)) (nI n, tc1, ls1, 1, nI (n * d), a1, a2, b3, b4, b5, b6, b7, b8, b9, b10) x2 x3 x4)) (nI n, tc1, ls1, 1, nI (n * d), a1, a2, b3, b4, b5, b6, b7, b8, b9, b10) x2 x3 := by
    intro r84 s9
    have fin : ∀ r120 r121 r157 r158, (td_K n x2 x3 → r120 = nI d) → (¬ td_K n x2 x3 → r120 = -1) → (td_Gd n x2 x3 x4 → r121 = 1) → (¬ td_Gd n x2 x3 x4 → r121 = 0) →
        (¬ td_K n x2 x3 → r157 = -1) → (td_K n x2 x3 → ¬ td_Gd n x2 x3 x4 → r157 = 0) → (td_Gd n x2 x3 x4 → r157 = x4) →
        (¬ td_Sp n x2 x4 → r158 = -1) → (td_Sp n x2 x4 → nI d + x4 < 0 → r158 = 0) → (td_Sp n x2 x4 → 99 < nI d + x4 → r158 = 0) → (td_Sp n x2 x4 → ¬ nI d + x4 < 0 → ¬ 99 < nI d + x4 → r158 = nI n - 1) →
        ((x2 < 0 → (wL_lawOf_125 post mc ms x2 x3 x4 (nI n) (nI d) (nI (n * d)) r84 r120 r121 r157 r158 kc ks)) ∧ (¬ x2 < 0 → (((nI n ≤ x2 → (wL_lawOf_125 post mc ms x2 x3 x4 (nI n) (nI d) (nI (n * d)) r84 r120 r121 r157 r158 kc ks)) ∧ (¬ nI n ≤ x2 → (wL_lawOf_126 post mc ms x2 x3 x4 (nI n) (nI d) (nI (n * d)) r84 r120 r121 r157 r158 1 kc ks)))))) := by
      intro r120 r121 r157 r158 t1 t2 t3 t4 t5 t6 t7 t8 t9 t10 t11
      have S : td_Sc (td_K n x2 x3) (td_Gd n x2 x3 x4) (td_Sp n x2 x4) x4 (nI n) (nI d) (nI (n * d)) r84 r120 r121 r157 r158 :=
        ⟨(pk_mul n d).symm, s9.1, s9.2.1, s9.2.2, t1, t2, t3, t4, t5, t6, t7, t8, t9, t10, t11⟩
      have hP : td_Sp n x2 x4 ↔ (¬ x2 < 0 ∧ ¬ nI n ≤ x2) ∧ ¬ x4 < (-99) ∧ ¬ 99 < x4 := ⟨fun h => ⟨⟨h.1, h.2.1⟩, h.2.2⟩, fun h => ⟨h.1.1, h.1.2, h.2⟩⟩
      have hG : td_Gd n x2 x3 x4 ↔ td_K n x2 x3 ∧ ¬ x4 < 0 ∧ ¬ 2 < x4 := Iff.rfl
      have hK : td_K n x2 x3 ↔ (¬ x2 < 0 ∧ ¬ nI n ≤ x2) ∧ ¬ x3 < 0 ∧ ¬ nI n ≤ x3 ∧ ¬ x2 = x3 := ⟨fun h => ⟨⟨h.1, h.2.1⟩, h.2.2⟩, fun h => ⟨h.1.1, h.1.2, h.2⟩⟩
      exact br_c (fun e => td_l126 hp S hP hG hK (td_fl0 (fun w => w.1 e))) (fun e => br_c (fun e' => td_l126 hp S hP hG hK (td_fl0 (fun w => w.2 e'))) (fun e' => td_l126 hp S hP hG hK (td_fl1 ⟨e, e'⟩)))
    have A4 : ∀ r120 r121 r157 tc ls tk tu b1 a2 a3 a4 a5 a6 a7 a8 a9 a10, td_L d b1 → (td_K n x2 x3 → r120 = nI d) → (¬ td_K n x2 x3 → r120 = -1) → (td_Gd n x2 x3 x4 → r121 = 1) → (¬ td_Gd n x2 x3 x4 → r121 = 0) →
        (¬ td_K n x2 x3 → r157 = -1) → (td_K n x2 x3 → ¬ td_Gd n x2 x3 x4 → r157 = 0) → (td_Gd n x2 x3 x4 → r157 = x4) →
        wpX_shift (fun r_158 u => match u with | (_, _, _, _, _, _, _, _, _, _, _, _, _, _, _) => (((x2 < 0 → (wL_lawOf_125 post mc ms x2 x3 x4 (nI n) (nI d) (nI (n * d)) r84 r120 r121 r157 r_158 kc ks)) ∧ (¬ x2 < 0 → (((nI n ≤ x2 → (wL_lawOf_125 post mc ms x2 x3 x4 (nI n) (nI d) (nI (n * d)) r84 r120 r121 r157 r_158 kc ks)) ∧ (¬ nI n ≤ x2 → (wL_lawOf_126 post mc ms x2 x3 x4 (nI n) (nI d) (nI (n * d)) r84 r120 r121 r157 r_158 1 kc ks)))))))) (nI n, tc, ls, tk, tu, b1, a2, a3, a4, a5, a6, a7, a8, a9, a10) x2 x4 := by
      intro r120 r121 r157 tc ls tk tu b1 a2 a3 a4 a5 a6 a7 a8 a9 a10 hb t1 t2 t3 t4 t5 t6 t7
      refine td_w_shift hn hb (fun hs => ?_) (fun hs hv => ?_) (fun hs v1 v2 tk' a1' => ?_)
      · exact fin r120 r121 r157 (-1) t1 t2 t3 t4 t5 t6 t7 (fun _ => rfl) (fun h => absurd h hs) (fun h => absurd h hs) (fun h => absurd h hs)
      · exact fin r120 r121 r157 0 t1 t2 t3 t4 t5 t6 t7 (fun h => absurd hs h) (fun _ _ => rfl) (fun _ _ => rfl) (fun _ u1 u2 => absurd hv (fun z => z.elim u1 u2))
      · exact fin r120 r121 r157 (nI (n - 1)) t1 t2 t3 t4 t5 t6 t7 (fun h => absurd hs h) (fun _ h => absurd h v1) (fun _ h => absurd h v2) (fun _ _ _ => (pk_sub (a := n) (b := 1) (by omega)).symm)
    have A3 : ∀ (r120 r121 tk : Int32) (c2 : Nat → Int32), (td_K n x2 x3 → r120 = nI d) → (¬ td_K n x2 x3 → r120 = -1) → (td_Gd n x2 x3 x4 → r121 = 1) → (¬ td_Gd n x2 x3 x4 → r121 = 0) →
        (td_K n x2 x3 → ∀ a b : Nat, a < 7 → b < 7 → x2 = nI a → x3 = nI b → (td_Gd n x2 x3 x4 → c2 (a * 7 + b) = x4) ∧ (¬ td_Gd n x2 x3 x4 → c2 (a * 7 + b) = 0)) →
        wpX_rule (fun r_157 => (wpX_shift (fun r_158 u => match u with | (_, _, _, _, _, _, _, _, _, _, _, _, _, _, _) => (((x2 < 0 → (wL_lawOf_125 post mc ms x2 x3 x4 (nI n) (nI d) (nI (n * d)) r84 r120 r121 r_157 r_158 kc ks)) ∧ (¬ x2 < 0 → (((nI n ≤ x2 → (wL_lawOf_125 post mc ms x2 x3 x4 (nI n) (nI d) (nI (n * d)) r84 r120 r121 r_157 r_158 kc ks)) ∧ (¬ nI n ≤ x2 → (wL_lawOf_126 post mc ms x2 x3 x4 (nI n) (nI d) (nI (n * d)) r84 r120 r121 r_157 r_158 1 kc ks)))))))) (nI n, tc1, ls1, tk, nI (n * d), a1, c2, b3, b4, b5, b6, b7, b8, b9, b10) x2 x4)) (nI n, tc1, ls1, tk, nI (n * d), a1, c2, b3, b4, b5, b6, b7, b8, b9, b10) x2 x3 := by
      intro r120 r121 tk c2 t1 t2 t3 t4 hc
      refine td_w_rule hn (fun hk a b ha hb ea eb => ?_) (fun hk => ?_)
      · exact A4 r120 r121 _ _ _ _ _ a1 _ _ _ _ _ _ _ _ _ hL t1 t2 t3 t4 (fun h => absurd hk h) (fun _ hg => (hc hk a b ha hb ea eb).2 hg) (fun hg => (hc hk a b ha hb ea eb).1 hg)
      · exact A4 r120 r121 _ _ _ _ _ a1 _ _ _ _ _ _ _ _ _ hL t1 t2 t3 t4 (fun _ => rfl) (fun h => absurd h hk) (fun hg => absurd hg.1 hk)
    have A2 : ∀ r120, (td_K n x2 x3 → r120 = nI d) → (¬ td_K n x2 x3 → r120 = -1) → wpX_setRule (fun r_121 u => match u with | (g0, g1, g2, g3, g4, c1, c2, c3, c4, c5, c6, c7, c8, c9, c10) => (wpX_rule (fun r_157 => (wpX_shift (fun r_158 u => match u with | (_, _, _, _, _, _, _, _, _, _, _, _, _, _, _) => (((x2 < 0 → (wL_lawOf_125 post mc ms x2 x3 x4 (nI n) (nI d) (nI (n * d)) r84 r120 r_121 r_157 r_158 kc ks)) ∧ (¬ x2 < 0 → (((nI n ≤ x2 → (wL_lawOf_125 post mc ms x2 x3 x4 (nI n) (nI d) (nI (n * d)) r84 r120 r_121 r_157 r_158 kc ks)) ∧ (¬ nI n ≤ x2 → (wL_lawOf_126 post mc ms x2 x3 x4 (nI n) (nI d) (nI (n * d)) r84 r120 r_121 r_157 r_158 1 kc ks)))))))) (g0, g1, g2, g3, g4, c1, c2, c3, c4, c5, c6, c7, c8, c9, c10) x2 x4)) (g0, g1, g2, g3, g4, c1, c2, c3, c4, c5, c6, c7, c8, c9, c10) x2 x3)) (nI n, tc1, ls1, 1, nI (n * d), a1, a2, b3, b4, b5, b6, b7, b8, b9, b10) x2 x3 x4 := by
      intro r120 t1 t2
      refine td_w_set hn (fun hg => ?_) (fun hg c2 hc2 => ?_)
      · exact A3 r120 0 1 a2 t1 t2 (fun h => absurd h hg) (fun _ => rfl) (fun _ a b ha hb _ _ => ⟨fun h => absurd h hg, fun _ => h2 _ (by omega)⟩)
      · exact A3 r120 1 0 c2 t1 t2 (fun _ => rfl) (fun h => absurd hg h) (fun _ a b ha hb ea eb => ⟨fun _ => hc2 a b ha hb ea eb, fun h => absurd hg h⟩)
    refine td_w_len hn hL (fun hk => ?_) (fun hk => ?_)
    · exact A2 _ (fun _ => rfl) (fun h => absurd hk h)
    · exact A2 _ (fun h => absurd h hk) (fun _ => rfl)
  refine td_w_city hd hn hb10 (fun h => ?_) (fun h h' => ?_) (fun h h' => ?_)
  · exact main (-1) ⟨fun _ => rfl, fun g => absurd h g, fun g => absurd h g⟩
  · exact main (-1) ⟨fun g => absurd g h, fun _ _ => rfl, fun _ g => absurd h' g⟩
  · exact main x4 ⟨fun g => absurd g h, fun _ g => absurd g h', fun _ _ => rfl⟩
end
section
/-! the constructor, the script's cells, the top -/
def td_D (p : Int32) (d : Nat) : Prop := (0 ≤ p ∧ p ≤ 99 ∧ p = nI d) ∨ (0 ≤ p ∧ ¬ p ≤ 99 ∧ d = 99) ∨ (¬ 0 ≤ p ∧ d = 0)
def td_N (p : Int32) (n : Nat) : Prop := (3 ≤ p ∧ p ≤ 7 ∧ p = nI n) ∨ (3 ≤ p ∧ ¬ p ≤ 7 ∧ n = 7) ∨ (¬ 3 ≤ p ∧ n = 3)
theorem td_D_ex (p : Int32) : ∃ d, d ≤ 99 ∧ td_D p d := by
  by_cases h0 : 0 ≤ p
  · by_cases h1 : p ≤ 99
    · obtain ⟨j, hj, e⟩ := nI_of2 (M := 99) (n := 99) (by decide) (Int32.not_lt.mpr h0) h1
      exact ⟨j, hj, Or.inl ⟨h0, h1, e⟩⟩
    · exact ⟨99, by omega, Or.inr (Or.inl ⟨h0, h1, rfl⟩)⟩
  · exact ⟨0, by omega, Or.inr (Or.inr ⟨h0, rfl⟩)⟩
theorem td_N_ex (p : Int32) : ∃ n, 3 ≤ n ∧ n ≤ 7 ∧ td_N p n := by
  by_cases h0 : 3 ≤ p
  · by_cases h1 : p ≤ 7
    · have hz : ¬ p < 0 := by
        rw [Int32.lt_iff_toInt_lt]
        rw [Int32.le_iff_toInt_le] at h0
        have e3 : (3 : Int32).toInt = 3 := by decide
        have e0 : (0 : Int32).toInt = 0 := by decide
        omega
      obtain ⟨j, hj, e⟩ := nI_of2 (M := 7) (n := 7) (by decide) hz h1
      refine ⟨j, ?_, hj, Or.inl ⟨h0, h1, e⟩⟩
      rw [e] at h0
      rcases Nat.lt_or_ge j 3 with g | g
      · exact absurd h0 (nI_ge (b := 3) g (by decide))
      · exact g
    · exact ⟨7, by omega, by omega, Or.inr (Or.inl ⟨h0, h1, rfl⟩)⟩
  · exact ⟨3, by omega, by omega, Or.inr (Or.inr ⟨h0, rfl⟩)⟩
theorem td_selD {p : Int32} {d : Nat} (Q : Int32 → Prop) (h : td_D p d) (hQ : Q (nI d)) : (0 ≤ p → (p ≤ 99 → Q p) ∧ (¬ p ≤ 99 → Q 99)) ∧ (¬ 0 ≤ p → Q 0) := by
  rcases h with ⟨h0, h1, e⟩ | ⟨h0, h1, e⟩ | ⟨h0, e⟩
  · rw [← e] at hQ
    exact br_t h0 (br_t h1 hQ)
  · subst e
    exact br_t h0 (br_f h1 hQ)
  · subst e
    exact br_f h0 hQ
theorem td_selN {p : Int32} {n : Nat} (Q : Int32 → Prop) (h : td_N p n) (hQ : Q (nI n)) : (3 ≤ p → (p ≤ 7 → Q p) ∧ (¬ p ≤ 7 → Q 7)) ∧ (¬ 3 ≤ p → Q 3) := by
  rcases h with ⟨h0, h1, e⟩ | ⟨h0, h1, e⟩ | ⟨h0, e⟩
  · rw [← e] at hQ
    exact br_t h0 (br_t h1 hQ)
  · subst e
    exact br_t h0 (br_f h1 hQ)
  · subst e
    exact br_f h0 hQ
theorem td_w_133 {post : St2 → Prop} {mc ms kc ks d n : Nat} {tc ls tk tu : Int32} {a1 a2 a3 a4 a5 a6 a7 a8 a9 a10 : Nat → Int32} (hd : d ≤ 99) (hp : ∀ a1', td_L d a1' → post (nI n, tc, ls, tk, tu, a1', a2, a3, a4, a5, a6, a7, a8, a9, a10)) :
    ∃ fu, wX_init_133 post mc ms (nI d) kc ks (nI n) tc ls tk tu fu 0 a1 a2 a3 a4 a5 a6 a7 a8 a9 a10 := by
  refine pk_loop (fun m i s => wX_init_133 post mc ms (nI d) kc ks (nI n) tc ls tk tu m (nI i) s a2 a3 a4 a5 a6 a7 a8 a9 a10) (fun i s => ∀ j, j < i → s j = nI d) 49 0 a1 (by omega) (fun j hj => absurd hj (by omega)) (fun m s hs => ?_) (fun m i s hi hs hw => ?_)
  · exact pk_le 49 49 (fun _ => hp s hs) (fun h => absurd h (by omega))
  · refine pk_le 49 i (fun h => absurd h (by omega)) (fun _ => ⟨pk_in i 49 hi, nm_e (nm_r (nI_1 i) (hw _ ?_))⟩)
    rw [nI_clamp (show i < 2 ^ 31 by omega), td_b8 d (by omega)]
    intro j hj
    by_cases e : j = i
    · rw [e, pk_us]
    · rw [pk_un e]
      exact hs j (by omega)
theorem td_w_106 {post : St2 → Prop} {mc ms kc ks d n : Nat} {p n0 tc ls tk tu : Int32} {a1 a2 a3 a4 a5 a6 a7 a8 a9 a10 : Nat → Int32} (hd : d ≤ 99) (hD : td_D p d) (hp : ∀ a1', td_L d a1' → post (nI n, tc, ls, tk, tu, a1', a2, a3, a4, a5, a6, a7, a8, a9, a10)) :
    wX_init_106 post mc ms p (nI n) kc ks n0 tc ls tk tu a1 a2 a3 a4 a5 a6 a7 a8 a9 a10 :=
  td_selD (fun z => ∃ fu, wX_init_133 post mc ms z kc ks (nI n) tc ls tk tu fu 0 a1 a2 a3 a4 a5 a6 a7 a8 a9 a10) hD (td_w_133 hd hp)
theorem td_cell {post : Int32 → Prop} {L : Nat} {xs : Nat → Int32} (i : Nat) (hL : L ≤ 5) (hi : i < 5) (h : ∀ v, post v) : wpL_cellAt post L xs () (nI i) :=
  pk_le L i (fun _ => h 0) (fun e => ⟨pk_in i L e, h _⟩)
theorem td_lawOf {post : Int32 → St0 → Prop} (hp : post 1 ()) (p0 p1 p2 p3 p4 : Int32) : wpL_lawOf post 70 1120 () p0 p1 p2 p3 p4 := by
  obtain ⟨n, hn3, hn, hN⟩ := td_N_ex p0
  obtain ⟨d, hd, hD⟩ := td_D_ex p1
  refine ⟨by omega, by omega, 69, 1105, by omega, by omega, ?_⟩
  unfold wpX_init
  dsimp only
  refine ⟨by omega, by omega, by omega, by omega, by omega, by omega, by omega, by omega, by omega, by omega, by omega, by omega, by omega, by omega, by omega, by omega, by omega, by omega, by omega, by omega, ?_⟩
  refine td_selN (fun z => wX_init_106 _ 69 1105 p1 z 10 272 0 0 0 0 0 (fun _ => 0) (fun _ => 0) (fun _ => 0) (fun _ => 0) (fun _ => 0) (fun _ => 0) (fun _ => 0) (fun _ => 0) (fun _ => 0) (fun _ => 0)) hN ?_
  refine td_w_106 hd hD (fun a1 hL => ?_)
  refine td_selN (fun z => wL_lawOf_32 post 70 1120 p1 p2 p3 p4 z (1 + 69) (15 + 1105) (nI n) 0 0 0 0 a1 (fun _ => 0) (fun _ => 0) (fun _ => 0) (fun _ => 0) (fun _ => 0) (fun _ => 0) (fun _ => 0) (fun _ => 0) (fun _ => 0)) hN ?_
  refine td_selD (fun z => wL_lawOf_54 post 70 1120 p2 p3 p4 (nI n) z (1 + 69) (15 + 1105) (nI n) 0 0 0 0 a1 (fun _ => 0) (fun _ => 0) (fun _ => 0) (fun _ => 0) (fun _ => 0) (fun _ => 0) (fun _ => 0) (fun _ => 0) (fun _ => 0)) hD ?_
  exact td_l54 hp hd hn3 hn hL (fun _ _ => rfl)
theorem i_vc (xs : Nat → Int32) (L : Nat) (hL : L ≤ 5) : wpL_law (fun r => r = 1) L xs :=
  td_cell 0 hL (by omega) (fun r1 => td_cell 1 hL (by omega) (fun r2 => td_cell 2 hL (by omega) (fun r3 => td_cell 3 hL (by omega) (fun r4 => td_cell 4 hL (by omega) (fun r5 =>
    ⟨70, 1120, by omega, by omega, td_lawOf (post := fun r_6 _ => r_6 = 1) rfl r1 r2 r3 r4 r5⟩)))))
end
