section
/-- the image of point x under the permutation with code c -/
def pg_d (c x : Nat) : Nat := c / 2 ^ (3 * x) % 8
/-- the code with the digits f -/
def pg_bl (f : Nat → Nat) : Nat → Nat
  | 0 => 0
  | n + 1 => pg_bl f n + f n * 2 ^ (3 * n)
/-- a permutation of six points -/
def pg_pm (c : Nat) : Prop := c < 262144 ∧ (∀ x, x < 6 → pg_d c x < 6) ∧ (∀ x, x < 6 → ∀ y, y < 6 → pg_d c x = pg_d c y → x = y)
/-- first a, then b -/
def pg_m (a b : Nat) : Nat := pg_bl (fun x => pg_d b (pg_d a x)) 6
def pg_ir (g : Nat) : Nat → Nat
  | 0 => 0
  | x + 1 => pg_ir g x ||| (x * 2 ^ (3 * pg_d g x))
/-- the inverse -/
def pg_i (g : Nat) : Nat := pg_ir g 6
/-- the number outside -/
def pg_o (c : Nat) : Nat := ((((pg_d c 5 * 6 + pg_d c 4) * 6 + pg_d c 3) * 6 + pg_d c 2) * 6 + pg_d c 1) * 6 + pg_d c 0
/-- the s-th point of the set m -/
def pg_pf (m : Nat) : Nat → Nat → Nat
  | 0, _ => 0
  | f + 1, s => if m / 2 ^ (5 - f) % 2 = 1 then (if s = 0 then 5 - f else pg_pf m f (s - 1)) else pg_pf m f s
def pg_pt (m s : Nat) : Nat := pg_pf m 6 s
def pg_nr : Nat → Nat → Nat → Nat → Nat
  | 0, _, _, out => out
  | f + 1, left, rest, out => pg_nr f (left - 2 ^ pg_pt left (rest % (f + 1))) (rest / (f + 1)) (out + pg_pt left (rest % (f + 1)) * 2 ^ (3 * (5 - f)))
/-- the n-th permutation -/
def pg_n (n : Nat) : Nat := pg_nr 6 63 n 0
def pg_cb (c v : Nat) : Nat → Nat
  | 0 => 0
  | j + 1 => pg_cb c v j + (if pg_d c j < v then 1 else 0)
def pg_ls (c i : Nat) : Nat := pg_d c i - pg_cb c (pg_d c i) i
def pg_rk (c : Nat) : Nat := pg_ls c 0 + 6 * (pg_ls c 1 + 5 * (pg_ls c 2 + 4 * (pg_ls c 3 + 3 * (pg_ls c 4 + 2 * pg_ls c 5))))

theorem pg_d_lt8 (c x : Nat) : pg_d c x < 8 := Nat.mod_lt _ (by decide)
theorem pg_p3 (n : Nat) : 2 ^ (3 * (n + 1)) = 8 * 2 ^ (3 * n) := by
  rw [show 3 * (n + 1) = 3 * n + 3 by omega, Nat.pow_add, Nat.mul_comm]
theorem pg_bl_lt {f : Nat → Nat} (n : Nat) (h : ∀ x, x < n → f x < 8) : pg_bl f n < 2 ^ (3 * n) := by
  induction n with
  | zero => exact Nat.one_pos
  | succ n ih =>
    have h1 := ih (fun x hx => h x (by omega))
    have h2 : f n * 2 ^ (3 * n) ≤ 7 * 2 ^ (3 * n) := Nat.mul_le_mul_right _ (by have := h n (by omega); omega)
    rw [pg_p3]
    show pg_bl f n + f n * 2 ^ (3 * n) < 8 * 2 ^ (3 * n)
    omega
theorem pg_bl_d {f : Nat → Nat} (n : Nat) (h : ∀ x, x < n → f x < 8) : ∀ x, x < n → pg_d (pg_bl f n) x = f x := by
  induction n with
  | zero => intro x hx; omega
  | succ n ih =>
    intro x hx
    have h1 := ih (fun x hx => h x (by omega))
    have hl := pg_bl_lt n (fun x hx => h x (by omega))
    by_cases e : x = n
    · subst e
      show (pg_bl f x + f x * 2 ^ (3 * x)) / 2 ^ (3 * x) % 8 = f x
      rw [Nat.add_mul_div_right _ _ (Nat.two_pow_pos _), Nat.div_eq_of_lt hl, Nat.zero_add, Nat.mod_eq_of_lt (h x (by omega))]
    · have hx' : x < n := by omega
      rw [← h1 x hx']
      show (pg_bl f n + f n * 2 ^ (3 * n)) / 2 ^ (3 * x) % 8 = pg_bl f n / 2 ^ (3 * x) % 8
      rw [show f n * 2 ^ (3 * n) = (f n * 2 ^ (3 * (n - x - 1)) * 8) * 2 ^ (3 * x) by
        rw [Nat.mul_assoc, Nat.mul_assoc, ← pg_p3 x, ← Nat.pow_add]; congr 2; omega]
      rw [Nat.add_mul_div_right _ _ (Nat.two_pow_pos _), Nat.add_mul_mod_self_right]
theorem pg_ext {a b : Nat} (ha : a < 262144) (hb : b < 262144) (h : ∀ x, x < 6 → pg_d a x = pg_d b x) : a = b := by
  have h0 := h 0 (by omega)
  have h1 := h 1 (by omega)
  have h2 := h 2 (by omega)
  have h3 := h 3 (by omega)
  have h4 := h 4 (by omega)
  have h5 := h 5 (by omega)
  simp only [pg_d, Nat.reduceMul, Nat.reducePow, Nat.mul_zero, Nat.pow_zero, Nat.div_one] at h0 h1 h2 h3 h4 h5
  omega
theorem pg_m_lt (a b : Nat) : pg_m a b < 262144 := pg_bl_lt 6 (fun x _ => pg_d_lt8 _ _)
theorem pg_m_d (a b : Nat) {x : Nat} (hx : x < 6) : pg_d (pg_m a b) x = pg_d b (pg_d a x) := pg_bl_d 6 (fun x _ => pg_d_lt8 _ _) x hx
theorem pg_pm_lt {a : Nat} (h : pg_pm a) : a < 262144 := h.1
theorem pg_d_lt {a x : Nat} (h : pg_pm a) (hx : x < 6) : pg_d a x < 6 := h.2.1 x hx
theorem pg_inj {a x y : Nat} (h : pg_pm a) (hx : x < 6) (hy : y < 6) (e : pg_d a x = pg_d a y) : x = y := h.2.2 x hx y hy e
theorem pg_m_pm {a b : Nat} (ha : pg_pm a) (hb : pg_pm b) : pg_pm (pg_m a b) := by
  refine ⟨pg_m_lt a b, fun x hx => ?_, fun x hx y hy e => ?_⟩
  · rw [pg_m_d a b hx]
    exact pg_d_lt hb (pg_d_lt ha hx)
  · rw [pg_m_d a b hx, pg_m_d a b hy] at e
    exact pg_inj ha hx hy (pg_inj hb (pg_d_lt ha hx) (pg_d_lt ha hy) e)
theorem pg_assoc {a : Nat} (ha : pg_pm a) (b c : Nat) : pg_m (pg_m a b) c = pg_m a (pg_m b c) :=
  pg_ext (pg_m_lt _ _) (pg_m_lt _ _) (fun x hx => by
    rw [pg_m_d _ _ hx, pg_m_d _ _ hx, pg_m_d _ _ hx, pg_m_d _ _ (pg_d_lt ha hx)])
theorem pg_id_d : ∀ x, x < 6 → pg_d 181896 x = x := by decide +kernel
theorem pg_id_pm : pg_pm 181896 := ⟨by decide, fun x hx => by rw [pg_id_d x hx]; exact hx, fun x hx y hy e => by rw [pg_id_d x hx, pg_id_d y hy] at e; exact e⟩
theorem pg_1m {b : Nat} (hb : pg_pm b) : pg_m 181896 b = b :=
  pg_ext (pg_m_lt _ _) hb.1 (fun x hx => by rw [pg_m_d _ _ hx, pg_id_d x hx])
theorem pg_m1 {a : Nat} (ha : pg_pm a) : pg_m a 181896 = a :=
  pg_ext (pg_m_lt _ _) ha.1 (fun x hx => by rw [pg_m_d _ _ hx, pg_id_d _ (pg_d_lt ha hx)])
def pg_pw (a : Nat) : Nat → Nat
  | 0 => 181896
  | k + 1 => pg_m (pg_pw a k) a
/-- what the table shows of the permutation c, the n-th -/
def pg_tb (c n : Nat) : Prop := (c < 262144 ∧ pg_rk c = n) ∧ (pg_i c < 262144 ∧ ∀ x, x < 6 → pg_d c x < 6 ∧ pg_d (pg_i c) x < 6 ∧ pg_d (pg_i c) (pg_d c x) = x ∧ pg_d c (pg_d (pg_i c) x) = x) ∧ (List.range 6).any (fun k => pg_pw c k == pg_i c) = true
end
section
theorem pg_tab {n : Nat} (hn : n < 720) : pg_tb (pg_n n) n :=
  co_dec (N := 720) (P := fun n => (pg_n n < 262144 ∧ pg_rk (pg_n n) = n) ∧ (pg_i (pg_n n) < 262144 ∧ ∀ x, x < 6 → pg_d (pg_n n) x < 6 ∧ pg_d (pg_i (pg_n n)) x < 6 ∧ pg_d (pg_i (pg_n n)) (pg_d (pg_n n) x) = x ∧ pg_d (pg_n n) (pg_d (pg_i (pg_n n)) x) = x) ∧ (List.range 6).any (fun k => pg_pw (pg_n n) k == pg_i (pg_n n)) = true) (by decide +kernel) hn
def pg_s3 (c : Nat) : Bool := decide (pg_rk c < 720) && pg_n (pg_rk c) == c
def pg_s2 : Bool := (List.range 6).all fun a => (List.range 6).all fun b => b == a || (List.range 6).all fun c => (c == a || c == b) || (List.range 6).all fun d => (d == a || d == b || d == c) || (List.range 6).all fun e => (e == a || e == b || e == c || e == d) || (List.range 6).all fun f => (f == a || f == b || f == c || f == d || f == e) || pg_s3 (a + b * 8 + c * 64 + d * 512 + e * 4096 + f * 32768)
theorem pg_sur1 : pg_s2 = true := by decide +kernel
theorem pg_al {n : Nat} {p : Nat → Bool} (h : (List.range n).all p = true) {a : Nat} (ha : a < n) : p a = true := List.all_eq_true.mp h a (List.mem_range.mpr ha)
theorem pg_orr {p q : Bool} (h : (p || q) = true) (hp : p = false) : q = true := by
  rw [hp, Bool.false_or] at h
  exact h
theorem pg_nb {a b : Nat} (h : a ≠ b) : (a == b) = false := beq_eq_false_iff_ne.mpr h
theorem pg_sur0 {a b c d e f : Nat} (ha : a < 6) (hb : b < 6) (b1 : b ≠ a) (hc : c < 6) (c1 : c ≠ a) (c2 : c ≠ b) (hd : d < 6) (d1 : d ≠ a) (d2 : d ≠ b) (d3 : d ≠ c) (he : e < 6) (e1 : e ≠ a) (e2 : e ≠ b) (e3 : e ≠ c) (e4 : e ≠ d) (hf : f < 6) (f1 : f ≠ a) (f2 : f ≠ b) (f3 : f ≠ c) (f4 : f ≠ d) (f5 : f ≠ e) :
    pg_rk (a + b * 8 + c * 64 + d * 512 + e * 4096 + f * 32768) < 720 ∧ pg_n (pg_rk (a + b * 8 + c * 64 + d * 512 + e * 4096 + f * 32768)) = a + b * 8 + c * 64 + d * 512 + e * 4096 + f * 32768 := by
  have t0 := pg_sur1
  unfold pg_s2 at t0
  have ta := pg_al t0 ha
  have tb := pg_orr (pg_al ta hb) (pg_nb b1)
  have tc := pg_orr (pg_al tb hc) (by rw [pg_nb c1, pg_nb c2]; rfl)
  have td := pg_orr (pg_al tc hd) (by rw [pg_nb d1, pg_nb d2, pg_nb d3]; rfl)
  have te := pg_orr (pg_al td he) (by rw [pg_nb e1, pg_nb e2, pg_nb e3, pg_nb e4]; rfl)
  have t := pg_orr (pg_al te hf) (by rw [pg_nb f1, pg_nb f2, pg_nb f3, pg_nb f4, pg_nb f5]; rfl)
  unfold pg_s3 at t
  rw [Bool.and_eq_true] at t
  exact ⟨of_decide_eq_true t.1, eq_of_beq t.2⟩
theorem pg_sur {c : Nat} (h : pg_pm c) : pg_rk c < 720 ∧ pg_n (pg_rk c) = c := by
  have e : c = pg_d c 0 + pg_d c 1 * 8 + pg_d c 2 * 64 + pg_d c 3 * 512 + pg_d c 4 * 4096 + pg_d c 5 * 32768 := by
    have := h.1
    simp only [pg_d, Nat.reduceMul, Nat.reducePow, Nat.mul_zero, Nat.pow_zero, Nat.div_one]
    omega
  have l : ∀ x, x < 6 → pg_d c x < 6 := fun x hx => pg_d_lt h hx
  have ne : ∀ x y, x < 6 → y < 6 → x ≠ y → pg_d c x ≠ pg_d c y := fun x y hx hy n z => n (pg_inj h hx hy z)
  have t := pg_sur0 (l 0 (by omega)) (l 1 (by omega)) (ne 1 0 (by omega) (by omega) (by omega))
    (l 2 (by omega)) (ne 2 0 (by omega) (by omega) (by omega)) (ne 2 1 (by omega) (by omega) (by omega))
    (l 3 (by omega)) (ne 3 0 (by omega) (by omega) (by omega)) (ne 3 1 (by omega) (by omega) (by omega)) (ne 3 2 (by omega) (by omega) (by omega))
    (l 4 (by omega)) (ne 4 0 (by omega) (by omega) (by omega)) (ne 4 1 (by omega) (by omega) (by omega)) (ne 4 2 (by omega) (by omega) (by omega)) (ne 4 3 (by omega) (by omega) (by omega))
    (l 5 (by omega)) (ne 5 0 (by omega) (by omega) (by omega)) (ne 5 1 (by omega) (by omega) (by omega)) (ne 5 2 (by omega) (by omega) (by omega)) (ne 5 3 (by omega) (by omega) (by omega)) (ne 5 4 (by omega) (by omega) (by omega))
  rw [← e] at t
  exact t
theorem pg_n_pm {n : Nat} (hn : n < 720) : pg_pm (pg_n n) := by
  obtain ⟨⟨h1, _⟩, ⟨_, h3⟩, _⟩ := pg_tab hn
  refine ⟨h1, fun x hx => (h3 x hx).1, fun x hx y hy e => ?_⟩
  rw [← (h3 x hx).2.2.1, e, (h3 y hy).2.2.1]
theorem pg_tbc {c : Nat} (h : pg_pm c) : pg_tb c (pg_rk c) := by
  have t := pg_tab (pg_sur h).1
  rw [(pg_sur h).2] at t
  exact t
theorem pg_id_l {c x : Nat} (h : pg_pm c) (hx : x < 6) : pg_d (pg_i c) (pg_d c x) = x := ((pg_tbc h).2.1.2 x hx).2.2.1
theorem pg_id_r {c x : Nat} (h : pg_pm c) (hx : x < 6) : pg_d c (pg_d (pg_i c) x) = x := ((pg_tbc h).2.1.2 x hx).2.2.2
theorem pg_i_pm {c : Nat} (h : pg_pm c) : pg_pm (pg_i c) := by
  obtain ⟨_, ⟨h2, h3⟩, _⟩ := pg_tbc h
  refine ⟨h2, fun x hx => (h3 x hx).2.1, fun x hx y hy e => ?_⟩
  rw [← (h3 x hx).2.2.2, e, (h3 y hy).2.2.2]
theorem pg_mi {c : Nat} (h : pg_pm c) : pg_m c (pg_i c) = 181896 :=
  pg_ext (pg_m_lt _ _) (by decide) (fun x hx => by rw [pg_m_d _ _ hx, pg_id_l h hx, pg_id_d x hx])
theorem pg_im {c : Nat} (h : pg_pm c) : pg_m (pg_i c) c = 181896 :=
  pg_ext (pg_m_lt _ _) (by decide) (fun x hx => by rw [pg_m_d _ _ hx, pg_id_r h hx, pg_id_d x hx])
theorem pg_ipw {c : Nat} (h : pg_pm c) : ∃ k, pg_i c = pg_pw c k := by
  obtain ⟨k, _, e⟩ := List.any_eq_true.mp (pg_tbc h).2.2
  exact ⟨k, (eq_of_beq e).symm⟩
/-- all permutations -/
def pg_all : List Nat := (List.range 720).map pg_n
theorem pg_mem {c : Nat} : c ∈ pg_all ↔ pg_pm c := by
  unfold pg_all
  rw [List.mem_map]
  constructor
  · rintro ⟨n, hn, rfl⟩
    exact pg_n_pm (List.mem_range.mp hn)
  · intro h
    exact ⟨pg_rk c, List.mem_range.mpr (pg_sur h).1, (pg_sur h).2⟩
theorem pg_nodup : pg_all.Nodup := by
  unfold pg_all
  rw [List.nodup_iff_pairwise_ne, List.pairwise_map]
  refine List.Pairwise.imp_of_mem (R := (· ≠ ·)) (fun {a b} ha hb hab e => hab ?_) List.nodup_range
  rw [← (pg_tab (List.mem_range.mp ha)).1.2, ← (pg_tab (List.mem_range.mp hb)).1.2, e]
theorem pg_all_len : pg_all.length = 720 := by
  unfold pg_all
  rw [List.length_map, List.length_range]
end
section
theorem pg_iu {a b : Nat} (ha : pg_pm a) (hb : pg_pm b) (h : pg_m a b = 181896) : b = pg_i a := by
  rw [← pg_1m hb, ← pg_im ha, pg_assoc (pg_i_pm ha), h, pg_m1 (pg_i_pm ha)]
theorem pg_ii {a : Nat} (ha : pg_pm a) : pg_i (pg_i a) = a := (pg_iu (pg_i_pm ha) ha (pg_im ha)).symm
theorem pg_i1 : pg_i 181896 = 181896 := (pg_iu pg_id_pm pg_id_pm (pg_1m pg_id_pm)).symm
theorem pg_i_m {a b : Nat} (ha : pg_pm a) (hb : pg_pm b) : pg_i (pg_m a b) = pg_m (pg_i b) (pg_i a) := by
  refine (pg_iu (pg_m_pm ha hb) (pg_m_pm (pg_i_pm hb) (pg_i_pm ha)) ?_).symm
  rw [pg_assoc ha, ← pg_assoc hb, pg_mi hb, pg_1m (pg_i_pm ha), pg_mi ha]
theorem pg_can {a b : Nat} (ha : pg_pm a) (hb : pg_pm b) : pg_m (pg_m a b) (pg_i b) = a := by
  rw [pg_assoc ha, pg_mi hb, pg_m1 ha]
theorem pg_can' {a b : Nat} (ha : pg_pm a) (hb : pg_pm b) : pg_m (pg_m a (pg_i b)) b = a := by
  rw [pg_assoc ha, pg_im hb, pg_m1 ha]
theorem pg_canl {a b : Nat} (ha : pg_pm a) (hb : pg_pm b) : pg_m (pg_i a) (pg_m a b) = b := by
  rw [← pg_assoc (pg_i_pm ha), pg_im ha, pg_1m hb]
theorem pg_canl' {a b : Nat} (ha : pg_pm a) (hb : pg_pm b) : pg_m a (pg_m (pg_i a) b) = b := by
  rw [← pg_assoc ha, pg_mi ha, pg_1m hb]
/-- what takes x to y is taken back by the inverse -/
theorem pg_id_of {a x y : Nat} (ha : pg_pm a) (hx : x < 6) (h : pg_d a x = y) : pg_d (pg_i a) y = x := by
  rw [← h, pg_id_l ha hx]

/-- what the set S generates (all are of finite order: right products are enough) -/
def gp_gen (S : Nat → Prop) (g : Nat) : Prop := ∀ P : Nat → Prop, P 181896 → (∀ a s, P a → S s → P (pg_m a s)) → P g
theorem gp_ind {S P : Nat → Prop} {g : Nat} (h : gp_gen S g) (h0 : P 181896) (hs : ∀ a s, P a → S s → P (pg_m a s)) : P g := h P h0 hs
theorem gp_id {S : Nat → Prop} : gp_gen S 181896 := fun _ h0 _ => h0
theorem gp_step {S : Nat → Prop} {a s : Nat} (h : gp_gen S a) (hs : S s) : gp_gen S (pg_m a s) := fun P h0 hst => hst a s (h P h0 hst) hs
theorem gp_pm {S : Nat → Prop} (hS : ∀ s, S s → pg_pm s) {g : Nat} (h : gp_gen S g) : pg_pm g :=
  gp_ind h pg_id_pm (fun _ s ha hs => pg_m_pm ha (hS s hs))
theorem gp_in {S : Nat → Prop} (hS : ∀ s, S s → pg_pm s) {s : Nat} (h : S s) : gp_gen S s := by
  have t := gp_step (gp_id (S := S)) h
  rw [pg_1m (hS s h)] at t
  exact t
theorem gp_mul {S : Nat → Prop} (hS : ∀ s, S s → pg_pm s) {a b : Nat} (ha : gp_gen S a) (hb : gp_gen S b) : gp_gen S (pg_m a b) :=
  gp_ind (P := fun b => gp_gen S (pg_m a b)) hb (by rw [pg_m1 (gp_pm hS ha)]; exact ha)
    (fun b s h hs => by rw [← pg_assoc (gp_pm hS ha)]; exact gp_step h hs)
theorem gp_pw {S : Nat → Prop} (hS : ∀ s, S s → pg_pm s) {a : Nat} (ha : gp_gen S a) : ∀ k, gp_gen S (pg_pw a k)
  | 0 => gp_id
  | k + 1 => gp_mul hS (gp_pw hS ha k) ha
theorem gp_inv {S : Nat → Prop} (hS : ∀ s, S s → pg_pm s) {a : Nat} (ha : gp_gen S a) : gp_gen S (pg_i a) := by
  obtain ⟨k, e⟩ := pg_ipw (gp_pm hS ha)
  rw [e]
  exact gp_pw hS ha k
theorem gp_sub {S R : Nat → Prop} (hR : ∀ s, R s → pg_pm s) (h : ∀ s, S s → gp_gen R s) {g : Nat} (hg : gp_gen S g) : gp_gen R g :=
  gp_ind hg gp_id (fun _ s ha hs => gp_mul hR ha (h s hs))
/-- a subgroup -/
def gp_sg (G : Nat → Prop) : Prop := (∀ g, G g → pg_pm g) ∧ G 181896 ∧ (∀ a b, G a → G b → G (pg_m a b)) ∧ (∀ a, G a → G (pg_i a))
theorem gp_gen_sg {S : Nat → Prop} (hS : ∀ s, S s → pg_pm s) : gp_sg (gp_gen S) :=
  ⟨fun _ h => gp_pm hS h, gp_id, fun _ _ ha hb => gp_mul hS ha hb, fun _ ha => gp_inv hS ha⟩
/-- those of G that fix the points before i -/
def gp_st (G : Nat → Prop) (i u : Nat) : Prop := G u ∧ ∀ x, x < i → pg_d u x = x
theorem gp_st_sg {G : Nat → Prop} (hG : gp_sg G) {i : Nat} (hi : i ≤ 6) : gp_sg (gp_st G i) := by
  obtain ⟨h1, h2, h3, h4⟩ := hG
  refine ⟨fun g h => h1 g h.1, ⟨h2, fun x hx => pg_id_d x (by omega)⟩, fun a b ha hb => ⟨h3 a b ha.1 hb.1, fun x hx => ?_⟩, fun a ha => ⟨h4 a ha.1, fun x hx => ?_⟩⟩
  · rw [pg_m_d _ _ (by omega), ha.2 x hx, hb.2 x hx]
  · exact pg_id_of (h1 a ha.1) (by omega) (ha.2 x hx)
theorem gp_st6 {G : Nat → Prop} (hG : gp_sg G) {u : Nat} : gp_st G 6 u ↔ u = 181896 := by
  constructor
  · intro h
    exact pg_ext (hG.1 u h.1).1 (by decide) (fun x hx => by rw [h.2 x hx, pg_id_d x hx])
  · intro h
    rw [h]
    exact ⟨hG.2.1, fun x hx => pg_id_d x hx⟩
theorem gp_st0 {G : Nat → Prop} {u : Nat} : gp_st G 0 u ↔ G u := ⟨fun h => h.1, fun h => ⟨h, fun x hx => absurd hx (by omega)⟩⟩
theorem gp_stS {G : Nat → Prop} {i u : Nat} : gp_st G (i + 1) u ↔ gp_st G i u ∧ pg_d u i = i := by
  constructor
  · intro h
    exact ⟨⟨h.1, fun x hx => h.2 x (by omega)⟩, h.2 i (by omega)⟩
  · intro h
    refine ⟨h.1.1, fun x hx => ?_⟩
    by_cases e : x = i
    · rw [e]; exact h.2
    · exact h.1.2 x (by omega)

noncomputable def cn_b (P : Nat → Prop) (c : Nat) : Bool := @decide (P c) (Classical.propDecidable (P c))
theorem cn_bt {P : Nat → Prop} {c : Nat} : cn_b P c = true ↔ P c := @decide_eq_true_iff (P c) (Classical.propDecidable (P c))
theorem cn_t {P : Nat → Prop} {c : Nat} (h : P c) : cn_b P c = true := cn_bt.mpr h
theorem cn_f {P : Nat → Prop} {c : Nat} (h : ¬ P c) : cn_b P c = false := by
  cases e : cn_b P c
  · rfl
  · exact absurd (cn_bt.mp e) h
/-- how many of the 720 permutations have P -/
noncomputable def cn_ct (P : Nat → Prop) : Nat := pg_all.countP (cn_b P)
theorem cn_congr {P Q : Nat → Prop} (h : ∀ g, pg_pm g → (P g ↔ Q g)) : cn_ct P = cn_ct Q :=
  List.countP_congr (fun x hx => by rw [cn_bt, cn_bt]; exact h x (pg_mem.mp hx))
theorem cn_sp (P Q : Nat → Prop) (l : List Nat) : l.countP (cn_b P) = l.countP (cn_b (fun g => P g ∧ Q g)) + l.countP (cn_b (fun g => P g ∧ ¬ Q g)) := by
  induction l with
  | nil => rfl
  | cons a l ih =>
    rw [List.countP_cons, List.countP_cons, List.countP_cons, ih]
    by_cases hp : P a
    · by_cases hq : Q a
      · rw [cn_t hp, cn_t (P := fun g => P g ∧ Q g) ⟨hp, hq⟩, cn_f (P := fun g => P g ∧ ¬ Q g) (fun z => z.2 hq)]
        simp only [if_true, Bool.false_eq_true, if_false]
        omega
      · rw [cn_t hp, cn_f (P := fun g => P g ∧ Q g) (fun z => hq z.2), cn_t (P := fun g => P g ∧ ¬ Q g) ⟨hp, hq⟩]
        simp only [if_true, Bool.false_eq_true, if_false]
        omega
    · rw [cn_f hp, cn_f (P := fun g => P g ∧ Q g) (fun z => hp z.1), cn_f (P := fun g => P g ∧ ¬ Q g) (fun z => hp z.1)]
      simp only [Bool.false_eq_true, if_false]
      omega
theorem cn_split (P Q : Nat → Prop) : cn_ct P = cn_ct (fun g => P g ∧ Q g) + cn_ct (fun g => P g ∧ ¬ Q g) := cn_sp P Q pg_all
theorem cn_bij {φ ψ : Nat → Nat} (h1 : ∀ g, pg_pm g → pg_pm (φ g) ∧ ψ (φ g) = g) (h2 : ∀ g, pg_pm g → pg_pm (ψ g) ∧ φ (ψ g) = g) (P : Nat → Prop) : cn_ct (fun g => P (φ g)) = cn_ct P := by
  have nd : (pg_all.map φ).Nodup := by
    rw [List.nodup_iff_pairwise_ne, List.pairwise_map]
    refine List.Pairwise.imp_of_mem (R := (· ≠ ·)) (fun {a b} ha hb hab e => hab ?_) pg_nodup
    rw [← (h1 a (pg_mem.mp ha)).2, ← (h1 b (pg_mem.mp hb)).2, e]
  have pe : (pg_all.map φ).Perm pg_all := by
    refine (List.perm_ext_iff_of_nodup nd pg_nodup).mpr (fun a => ?_)
    rw [List.mem_map]
    constructor
    · rintro ⟨g, hg, rfl⟩
      exact pg_mem.mpr (h1 g (pg_mem.mp hg)).1
    · intro ha
      exact ⟨ψ a, pg_mem.mpr (h2 a (pg_mem.mp ha)).1, (h2 a (pg_mem.mp ha)).2⟩
  have e := pe.countP_eq (cn_b P)
  rw [List.countP_map] at e
  exact e
theorem cn_pos {P : Nat → Prop} {g : Nat} (hg : pg_pm g) (h : P g) : 0 < cn_ct P := List.countP_pos_iff.mpr ⟨g, pg_mem.mpr hg, cn_t h⟩
theorem cn_ex {P : Nat → Prop} (h : 0 < cn_ct P) : ∃ g, pg_pm g ∧ P g := by
  obtain ⟨g, hg, e⟩ := List.countP_pos_iff.mp h
  exact ⟨g, pg_mem.mp hg, cn_bt.mp e⟩
theorem cn_zero {P : Nat → Prop} (h : ∀ g, pg_pm g → ¬ P g) : cn_ct P = 0 :=
  List.countP_eq_zero.mpr (fun a ha z => h a (pg_mem.mp ha) (cn_bt.mp z))
theorem cn_le {P Q : Nat → Prop} (h : ∀ g, pg_pm g → P g → Q g) : cn_ct P ≤ cn_ct Q :=
  List.countP_mono_left (fun x hx z => cn_t (h x (pg_mem.mp hx) (cn_bt.mp z)))
theorem cn_720 (P : Nat → Prop) : cn_ct P ≤ 720 := by
  have := List.countP_le_length (p := cn_b P) (l := pg_all)
  rw [pg_all_len] at this
  exact this
theorem cn_all {P : Nat → Prop} (h : ∀ g, pg_pm g → P g) : cn_ct P = 720 := by
  rw [← pg_all_len]
  exact List.countP_eq_length.mpr (fun a ha => cn_t (h a (pg_mem.mp ha)))
theorem cn_one {g0 : Nat} (h0 : pg_pm g0) : cn_ct (fun g => g = g0) = 1 := by
  have e : pg_all.countP (cn_b (fun g => g = g0)) = pg_all.count g0 := by
    rw [List.count_eq_countP]
    exact List.countP_congr (fun x _ => by rw [cn_bt]; exact beq_iff_eq.symm)
  show pg_all.countP (cn_b (fun g => g = g0)) = 1
  rw [e, List.Nodup.count pg_nodup, if_pos (pg_mem.mpr h0)]
theorem cn_eqv {P Q : Nat → Prop} (h : ∀ g, pg_pm g → P g → Q g) (e : cn_ct P = cn_ct Q) : ∀ g, pg_pm g → Q g → P g := by
  intro g hg hq
  have s := cn_split Q P
  have t : cn_ct (fun g => Q g ∧ P g) = cn_ct P := cn_congr (fun g hg => ⟨fun z => z.2, fun z => ⟨h g hg z, z⟩⟩)
  have u : cn_ct (fun g => Q g ∧ ¬ P g) = 0 := by omega
  refine Classical.byContradiction (fun hp => ?_)
  have := cn_pos (P := fun g => Q g ∧ ¬ P g) hg ⟨hq, hp⟩
  omega
/-- Lagrange: a set that right products by G keep falls into parts of the size of G -/
theorem cn_lag {G : Nat → Prop} (hG : gp_sg G) : ∀ (N : Nat) (A : Nat → Prop), cn_ct A = N → (∀ a u, pg_pm a → A a → G u → A (pg_m a u)) → cn_ct G ∣ N := by
  obtain ⟨g1, g2, g3, g4⟩ := hG
  intro N
  induction N using Nat.strongRecOn with
  | _ N ih =>
    intro A hN hA
    by_cases h0 : N = 0
    · rw [h0]; exact Nat.dvd_zero _
    · obtain ⟨x, hx, ax⟩ := cn_ex (P := A) (by omega)
      have s := cn_split A (fun g => G (pg_m (pg_i x) g))
      have t : cn_ct (fun g => A g ∧ G (pg_m (pg_i x) g)) = cn_ct G := by
        rw [← cn_bij (φ := fun g => pg_m (pg_i x) g) (ψ := fun g => pg_m x g) (fun g hg => ⟨pg_m_pm (pg_i_pm hx) hg, pg_canl' hx hg⟩) (fun g hg => ⟨pg_m_pm hx hg, pg_canl hx hg⟩) G]
        refine cn_congr (fun g hg => ⟨fun z => z.2, fun z => ⟨?_, z⟩⟩)
        have w := hA x (pg_m (pg_i x) g) hx ax z
        rw [pg_canl' hx hg] at w
        exact w
      have gp : 0 < cn_ct G := cn_pos pg_id_pm g2
      have d := ih (cn_ct (fun g => A g ∧ ¬ G (pg_m (pg_i x) g))) (by omega) (fun g => A g ∧ ¬ G (pg_m (pg_i x) g)) rfl (fun a u ha hau hu => by
        refine ⟨hA a u ha hau.1 hu, fun z => hau.2 ?_⟩
        have w := g3 _ _ z (g4 u hu)
        rw [pg_assoc (pg_i_pm hx), pg_can ha (g1 u hu)] at w
        exact w)
      rw [← hN, s, t]
      exact Nat.dvd_add (Nat.dvd_refl _) d
theorem cn_lagr {G A : Nat → Prop} (hG : gp_sg G) (hA : ∀ a u, pg_pm a → A a → G u → A (pg_m a u)) : cn_ct G ∣ cn_ct A := cn_lag hG _ A rfl hA
/-- sums -/
def cn_sm (f : Nat → Nat) : Nat → Nat
  | 0 => 0
  | n + 1 => cn_sm f n + f n
theorem cn_smc {f f' : Nat → Nat} (n : Nat) (h : ∀ y, y < n → f y = f' y) : cn_sm f n = cn_sm f' n := by
  induction n with
  | zero => rfl
  | succ n ih =>
    show cn_sm f n + f n = cn_sm f' n + f' n
    rw [ih (fun y hy => h y (by omega)), h n (by omega)]
theorem cn_by1 (P : Nat → Prop) (v : Nat → Nat) (n : Nat) : cn_ct (fun g => P g ∧ v g < n) = cn_sm (fun y => cn_ct (fun g => P g ∧ v g = y)) n := by
  induction n with
  | zero => exact cn_zero (fun g _ z => absurd z.2 (by omega))
  | succ n ih =>
    rw [cn_split _ (fun g => v g < n)]
    show _ = cn_sm (fun y => cn_ct (fun g => P g ∧ v g = y)) n + cn_ct (fun g => P g ∧ v g = n)
    rw [← ih]
    congr 1
    · exact cn_congr (fun g _ => ⟨fun z => ⟨z.1.1, z.2⟩, fun z => ⟨⟨z.1, by omega⟩, z.2⟩⟩)
    · exact cn_congr (fun g _ => ⟨fun z => ⟨z.1.1, by have := z.1.2; have := z.2; omega⟩, fun z => ⟨⟨z.1, by omega⟩, by omega⟩⟩)
theorem cn_by {P : Nat → Prop} (v : Nat → Nat) (n : Nat) (h : ∀ g, pg_pm g → P g → v g < n) : cn_ct P = cn_sm (fun y => cn_ct (fun g => P g ∧ v g = y)) n := by
  rw [← cn_by1]
  exact cn_congr (fun g hg => ⟨fun z => ⟨z, h g hg z⟩, fun z => z.1⟩)
/-- the number of y < n with Q -/
noncomputable def cn_nb (Q : Nat → Prop) (n : Nat) : Nat := cn_sm (fun y => if cn_b Q y then 1 else 0) n
theorem cn_nbm (Q : Nat → Prop) (c : Nat) (n : Nat) : cn_sm (fun y => if cn_b Q y then c else 0) n = cn_nb Q n * c := by
  induction n with
  | zero => exact (Nat.zero_mul c).symm
  | succ n ih =>
    show cn_sm _ n + _ = (cn_nb Q n + _) * c
    rw [ih, Nat.add_mul]
    congr 1
    dsimp only
    by_cases h : cn_b Q n = true
    · rw [if_pos h, if_pos h, Nat.one_mul]
    · rw [if_neg h, if_neg h, Nat.zero_mul]
end
section
/-- h⁻¹ s h -/
def gp_cj (s h : Nat) : Nat := pg_m (pg_m (pg_i h) s) h
theorem gp_cj_pm {s h : Nat} (hs : pg_pm s) (hh : pg_pm h) : pg_pm (gp_cj s h) := pg_m_pm (pg_m_pm (pg_i_pm hh) hs) hh
theorem gp_cj_m {a b h : Nat} (ha : pg_pm a) (hb : pg_pm b) (hh : pg_pm h) : gp_cj (pg_m a b) h = pg_m (gp_cj a h) (gp_cj b h) := by
  have hi := pg_i_pm hh
  have h1 := pg_m_pm hi ha
  unfold gp_cj
  rw [pg_assoc h1, ← pg_assoc hh, pg_canl' hh hb, ← pg_assoc h1, pg_assoc hi a b]
theorem gp_cj_1 {h : Nat} (hh : pg_pm h) : gp_cj 181896 h = 181896 := by
  unfold gp_cj
  rw [pg_m1 (pg_i_pm hh), pg_im hh]
theorem gp_cj_cj {s a b : Nat} (hs : pg_pm s) (ha : pg_pm a) (hb : pg_pm b) : gp_cj (gp_cj s a) b = gp_cj s (pg_m a b) := by
  have hai := pg_i_pm ha
  have hbi := pg_i_pm hb
  unfold gp_cj
  rw [pg_i_m ha hb, pg_assoc hbi (pg_i a) s, ← pg_assoc hbi (pg_m (pg_i a) s) a, pg_assoc (pg_m_pm hbi (pg_m_pm hai hs))]
theorem gp_cj_id {s : Nat} (hs : pg_pm s) : gp_cj s 181896 = s := by
  unfold gp_cj
  rw [pg_i1, pg_1m hs, pg_m1 hs]
theorem gp_cj_back {s h : Nat} (hs : pg_pm s) (hh : pg_pm h) : gp_cj (gp_cj s h) (pg_i h) = s := by
  rw [gp_cj_cj hs hh (pg_i_pm hh), pg_mi hh, gp_cj_id hs]
theorem gp_cj_forth {s h : Nat} (hs : pg_pm s) (hh : pg_pm h) : gp_cj (gp_cj s (pg_i h)) h = s := by
  rw [gp_cj_cj hs (pg_i_pm hh) hh, pg_im hh, gp_cj_id hs]
theorem gp_cj_in {G : Nat → Prop} (hG : gp_sg G) {s u : Nat} (hs : G s) (hu : G u) : G (gp_cj s u) :=
  hG.2.2.1 _ _ (hG.2.2.1 _ _ (hG.2.2.2 _ hu) hs) hu
theorem cn_cj (h : Nat) (hh : pg_pm h) (P : Nat → Prop) : cn_ct (fun g => P (gp_cj g h)) = cn_ct P :=
  cn_bij (φ := fun g => gp_cj g h) (ψ := fun g => gp_cj g (pg_i h)) (fun g hg => ⟨gp_cj_pm hg hh, gp_cj_back hg hh⟩) (fun g hg => ⟨gp_cj_pm hg (pg_i_pm hh), gp_cj_forth hg hh⟩) P

/-- the order divides 720 -/
theorem gl_720 {G : Nat → Prop} (hG : gp_sg G) : 0 < cn_ct G ∧ cn_ct G ∣ 720 := by
  refine ⟨cn_pos pg_id_pm hG.2.1, ?_⟩
  have h := cn_lagr (A := pg_pm) hG (fun a u ha _ hu => pg_m_pm ha (hG.1 u hu))
  rw [cn_all (P := pg_pm) (fun g hg => hg)] at h
  exact h
/-- the centre -/
def gl_Z (S : Nat → Prop) (g : Nat) : Prop := gp_gen S g ∧ ∀ s, S s → pg_m g s = pg_m s g
theorem gl_centre {S : Nat → Prop} (hS : ∀ s, S s → pg_pm s) : cn_ct (gl_Z S) = cn_ct (gp_gen S) ↔ ∀ s, S s → ∀ t, S t → pg_m s t = pg_m t s := by
  constructor
  · intro e s hs t ht
    exact (cn_eqv (fun g _ z => z.1) e s (hS s hs) (gp_in hS hs)).2 t ht
  · intro h
    refine cn_congr (fun g hg => ⟨fun z => z.1, fun z => ⟨z, ?_⟩⟩)
    refine (gp_ind (P := fun a => pg_pm a ∧ ∀ s, S s → pg_m a s = pg_m s a) z ⟨pg_id_pm, fun s hs => ?_⟩ (fun a t ha ht => ⟨pg_m_pm ha.1 (hS t ht), fun s hs => ?_⟩)).2
    · rw [pg_1m (hS s hs), pg_m1 (hS s hs)]
    · rw [pg_assoc ha.1, h t ht s hs, ← pg_assoc ha.1, ha.2 s hs, pg_assoc (hS s hs)]
/-- the normaliser -/
def gl_N (S : Nat → Prop) (h : Nat) : Prop := ∀ s, S s → gp_gen S (gp_cj s h)
theorem gl_norm {S : Nat → Prop} (hS : ∀ s, S s → pg_pm s) : cn_ct (gp_gen S) ∣ cn_ct (gl_N S) := by
  refine cn_lagr (gp_gen_sg hS) (fun a u ha hN hu s hs => ?_)
  rw [← gp_cj_cj (hS s hs) ha (gp_pm hS hu)]
  exact gp_cj_in (gp_gen_sg hS) (hN s hs) hu
/-- orbit and stabiliser -/
theorem gl_os {G : Nat → Prop} (hG : gp_sg G) {x : Nat} (hx : x < 6) : cn_ct G = cn_ct (fun g => G g ∧ pg_d g x = x) * cn_nb (fun y => ∃ u, G u ∧ pg_d u x = y) 6 := by
  rw [cn_by (fun g => pg_d g x) 6 (fun g hg _ => pg_d_lt hg hx), Nat.mul_comm, ← cn_nbm]
  refine cn_smc 6 (fun y _ => ?_)
  by_cases h : ∃ u, G u ∧ pg_d u x = y
  · rw [if_pos (cn_t h)]
    obtain ⟨u, hu, e⟩ := h
    have pu := hG.1 u hu
    rw [← cn_bij (φ := fun g => pg_m g (pg_i u)) (ψ := fun g => pg_m g u) (fun g hg => ⟨pg_m_pm hg (pg_i_pm pu), pg_can' hg pu⟩) (fun g hg => ⟨pg_m_pm hg pu, pg_can hg pu⟩) (fun g => G g ∧ pg_d g x = x)]
    refine cn_congr (fun g hg => ⟨fun z => ⟨hG.2.2.1 _ _ z.1 (hG.2.2.2 _ hu), ?_⟩, fun z => ⟨?_, ?_⟩⟩)
    · rw [pg_m_d _ _ hx, z.2]
      exact pg_id_of pu hx e
    · have w := hG.2.2.1 _ _ z.1 hu
      rw [pg_can' hg pu] at w
      exact w
    · have w := z.2
      rw [pg_m_d _ _ hx] at w
      have v := pg_id_r pu (pg_d_lt hg hx)
      rw [w, e] at v
      exact v.symm
  · rw [if_neg (fun z => h (cn_bt.mp z))]
    exact cn_zero (fun g _ z => h ⟨g, z⟩)
/-- those that keep a set -/
def gl_K (G : Nat → Prop) (A : Nat → Prop) (g : Nat) : Prop := G g ∧ ∀ i, i < 6 → (A i ↔ A (pg_d g i))
theorem gl_K_sg {G : Nat → Prop} (hG : gp_sg G) (A : Nat → Prop) : gp_sg (gl_K G A) := by
  refine ⟨fun g h => hG.1 g h.1, ⟨hG.2.1, fun i hi => by rw [pg_id_d i hi]⟩, fun a b ha hb => ⟨hG.2.2.1 _ _ ha.1 hb.1, fun i hi => ?_⟩, fun a ha => ⟨hG.2.2.2 _ ha.1, fun i hi => ?_⟩⟩
  · rw [pg_m_d _ _ hi, ← hb.2 _ (pg_d_lt (hG.1 a ha.1) hi)]
    exact ha.2 i hi
  · have p := hG.1 a ha.1
    rw [ha.2 _ (pg_d_lt (pg_i_pm p) hi), pg_id_r p hi]
theorem gl_keep {G : Nat → Prop} (hG : gp_sg G) (A : Nat → Prop) : 0 < cn_ct (gl_K G A) ∧ cn_ct (gl_K G A) ∣ cn_ct G := by
  have k := gl_K_sg hG A
  exact ⟨cn_pos pg_id_pm k.2.1, cn_lagr k (fun a u _ ha hu => hG.2.2.1 _ _ ha hu.1)⟩
/-- conjugation -/
def gl_S (S : Nat → Prop) (h : Nat) (t : Nat) : Prop := ∃ s, S s ∧ t = gp_cj s h
theorem gl_S_pm {S : Nat → Prop} {h : Nat} (hS : ∀ s, S s → pg_pm s) (hh : pg_pm h) : ∀ t, gl_S S h t → pg_pm t := by
  rintro t ⟨s, hs, rfl⟩
  exact gp_cj_pm (hS s hs) hh
theorem gl_S_gen {S : Nat → Prop} {h : Nat} (hS : ∀ s, S s → pg_pm s) (hh : pg_pm h) {g : Nat} (hg : pg_pm g) : gp_gen (gl_S S h) (gp_cj g h) ↔ gp_gen S g := by
  have f : ∀ g, gp_gen S g → pg_pm g ∧ gp_gen (gl_S S h) (gp_cj g h) := by
    intro g z
    refine gp_ind (P := fun g => pg_pm g ∧ gp_gen (gl_S S h) (gp_cj g h)) z ⟨pg_id_pm, ?_⟩ (fun a s ha hs => ⟨pg_m_pm ha.1 (hS s hs), ?_⟩)
    · rw [gp_cj_1 hh]
      exact gp_id
    · rw [gp_cj_m ha.1 (hS s hs) hh]
      exact gp_step ha.2 ⟨s, hs, rfl⟩
  have b : ∀ g, gp_gen (gl_S S h) g → pg_pm g ∧ gp_gen S (gp_cj g (pg_i h)) := by
    intro g z
    refine gp_ind (P := fun g => pg_pm g ∧ gp_gen S (gp_cj g (pg_i h))) z ⟨pg_id_pm, ?_⟩ (fun a t ha ht => ⟨pg_m_pm ha.1 (gl_S_pm hS hh t ht), ?_⟩)
    · rw [gp_cj_1 (pg_i_pm hh)]
      exact gp_id
    · obtain ⟨s, hs, rfl⟩ := ht
      rw [gp_cj_m ha.1 (gp_cj_pm (hS s hs) hh) (pg_i_pm hh), gp_cj_back (hS s hs) hh]
      exact gp_step ha.2 hs
  constructor
  · intro z
    have w := (b _ z).2
    rw [gp_cj_back hg hh] at w
    exact w
  · intro z
    exact (f g z).2
theorem gl_c_order {S : Nat → Prop} {h : Nat} (hS : ∀ s, S s → pg_pm s) (hh : pg_pm h) : cn_ct (gp_gen (gl_S S h)) = cn_ct (gp_gen S) := by
  rw [← cn_cj h hh]
  exact cn_congr (fun g hg => gl_S_gen hS hh hg)
theorem gl_c_centre {S : Nat → Prop} {h : Nat} (hS : ∀ s, S s → pg_pm s) (hh : pg_pm h) : cn_ct (gl_Z (gl_S S h)) = cn_ct (gl_Z S) := by
  rw [← cn_cj h hh]
  refine cn_congr (fun g hg => ?_)
  unfold gl_Z
  rw [gl_S_gen hS hh hg]
  refine and_congr_right (fun _ => ⟨fun z s hs => ?_, fun z t ht => ?_⟩)
  · have w := z (gp_cj s h) ⟨s, hs, rfl⟩
    rw [← gp_cj_m hg (hS s hs) hh, ← gp_cj_m (hS s hs) hg hh] at w
    rw [← gp_cj_back (pg_m_pm hg (hS s hs)) hh, w, gp_cj_back (pg_m_pm (hS s hs) hg) hh]
  · obtain ⟨s, hs, rfl⟩ := ht
    rw [← gp_cj_m hg (hS s hs) hh, ← gp_cj_m (hS s hs) hg hh, z s hs]
theorem gl_c_norm {S : Nat → Prop} {h : Nat} (hS : ∀ s, S s → pg_pm s) (hh : pg_pm h) : cn_ct (gl_N (gl_S S h)) = cn_ct (gl_N S) := by
  rw [← cn_cj h hh]
  refine cn_congr (fun g hg => ?_)
  have e : ∀ s, pg_pm s → gp_cj (gp_cj s h) (gp_cj g h) = gp_cj (gp_cj s g) h := by
    intro s hs
    rw [gp_cj_cj hs hh (gp_cj_pm hg hh), gp_cj_cj hs hg hh]
    congr 1
    unfold gp_cj
    rw [pg_assoc (pg_i_pm hh), pg_canl' hh (pg_m_pm hg hh)]
  constructor
  · intro z s hs
    have w := z (gp_cj s h) ⟨s, hs, rfl⟩
    rw [e s (hS s hs)] at w
    exact (gl_S_gen hS hh (gp_cj_pm (hS s hs) hg)).mp w
  · rintro z t ⟨s, hs, rfl⟩
    rw [e s (hS s hs)]
    exact (gl_S_gen hS hh (gp_cj_pm (hS s hs) hg)).mpr (z s hs)

/-- a chain: K i y: point i is taken to y by one of G that fixes the points before i, T i y is such a one -/
def ch_ok (G : Nat → Prop) (K : Nat → Nat → Prop) (T : Nat → Nat → Nat) : Prop :=
  ∀ i, i < 6 → ∀ y, y < 6 → (K i y ↔ ∃ u, gp_st G i u ∧ pg_d u i = y) ∧ (K i y → gp_st G i (T i y) ∧ pg_d (T i y) i = y)
/-- the coset of h under those that fix the points before i, with P -/
def ch_C (G : Nat → Prop) (P : Nat → Prop) (i h g : Nat) : Prop := gp_st G i (pg_m g (pg_i h)) ∧ P g
theorem ch_K_ge {G : Nat → Prop} {K : Nat → Nat → Prop} {T : Nat → Nat → Nat} (hG : gp_sg G) (h : ch_ok G K T) {i y : Nat} (hi : i < 6) (hy : y < 6) (k : K i y) : i ≤ y := by
  obtain ⟨u, hu, e⟩ := ((h i hi y hy).1).mp k
  rcases Nat.lt_or_ge y i with z | z
  · have w := hu.2 y z
    exact absurd (pg_inj (hG.1 u hu.1) hy hi (by rw [w, e])) (by omega)
  · exact z
theorem ch_K_i {G : Nat → Prop} {K : Nat → Nat → Prop} {T : Nat → Nat → Nat} (hG : gp_sg G) (h : ch_ok G K T) {i : Nat} (hi : i < 6) : K i i :=
  ((h i hi i hi).1).mpr ⟨181896, ⟨hG.2.1, fun x hx => pg_id_d x (by omega)⟩, pg_id_d i hi⟩
theorem ch_dec {G : Nat → Prop} {K : Nat → Nat → Prop} {T : Nat → Nat → Nat} (hG : gp_sg G) (hc : ch_ok G K T) (P : Nat → Prop) {i h : Nat} (hi : i < 6) (hh : pg_pm h) :
    cn_ct (ch_C G P i h) = cn_sm (fun y => if cn_b (K i) y then cn_ct (ch_C G P (i + 1) (pg_m (T i y) h)) else 0) 6 := by
  have sg := gp_st_sg hG (i := i) (by omega)
  rw [cn_by (fun g => pg_d (pg_m g (pg_i h)) i) 6 (fun g hg _ => pg_d_lt (pg_m_pm hg (pg_i_pm hh)) hi)]
  refine cn_smc 6 (fun y hy => ?_)
  by_cases k : K i y
  · rw [if_pos (cn_t k)]
    obtain ⟨t1, t2⟩ := (hc i hi y hy).2 k
    have pt := sg.1 _ t1
    refine cn_congr (fun g hg => ?_)
    have pk := pg_m_pm hg (pg_i_pm hh)
    have e : pg_m g (pg_i (pg_m (T i y) h)) = pg_m (pg_m g (pg_i h)) (pg_i (T i y)) := by
      rw [pg_i_m pt hh, ← pg_assoc hg]
    unfold ch_C
    rw [e, gp_stS]
    constructor
    · rintro ⟨⟨z1, z2⟩, z3⟩
      refine ⟨⟨sg.2.2.1 _ _ z1 (sg.2.2.2 _ t1), ?_⟩, z2⟩
      rw [pg_m_d _ _ hi, z3]
      exact pg_id_of pt hi t2
    · rintro ⟨⟨z1, z2⟩, z3⟩
      refine ⟨⟨?_, z3⟩, ?_⟩
      · have w := sg.2.2.1 _ _ z1 t1
        rw [pg_can' pk pt] at w
        exact w
      · rw [pg_m_d _ _ hi] at z2
        have v := pg_id_r pt (pg_d_lt pk hi)
        rw [z2, t2] at v
        exact v.symm
  · rw [if_neg (fun z => k (cn_bt.mp z))]
    exact cn_zero (fun g hg z => k (((hc i hi y hy).1).mpr ⟨_, z.1.1, z.2⟩))
theorem ch_C6 {G : Nat → Prop} (hG : gp_sg G) (P : Nat → Prop) {h : Nat} (hh : pg_pm h) : cn_ct (ch_C G P 6 h) = if cn_b P h then 1 else 0 := by
  have k : ∀ g, pg_pm g → (gp_st G 6 (pg_m g (pg_i h)) ↔ g = h) := by
    intro g hg
    rw [gp_st6 hG]
    constructor
    · intro e
      rw [← pg_can' hg hh, e, pg_1m hh]
    · intro e
      rw [e, pg_mi hh]
  by_cases p : P h
  · rw [if_pos (cn_t p), ← cn_one hh]
    exact cn_congr (fun g hg => ⟨fun z => (k g hg).mp z.1, fun z => ⟨(k g hg).mpr z, by rw [z]; exact p⟩⟩)
  · rw [if_neg (fun z => p (cn_bt.mp z))]
    exact cn_zero (fun g hg z => p (by rw [← (k g hg).mp z.1]; exact z.2))
theorem ch_C0 (G : Nat → Prop) (P : Nat → Prop) : cn_ct (ch_C G P 0 181896) = cn_ct (fun g => G g ∧ P g) :=
  cn_congr (fun g hg => by
    unfold ch_C
    rw [pg_i1, pg_m1 hg, gp_st0])
/-- the order, level by level -/
theorem ch_ord {G : Nat → Prop} {K : Nat → Nat → Prop} {T : Nat → Nat → Nat} (hG : gp_sg G) (hc : ch_ok G K T) {i : Nat} (hi : i < 6) : cn_ct (gp_st G i) = cn_nb (K i) 6 * cn_ct (gp_st G (i + 1)) := by
  have e : ∀ j h, j ≤ 6 → pg_pm h → cn_ct (ch_C G (fun _ => True) j h) = cn_ct (gp_st G j) := by
    intro j h _ hh
    rw [← cn_bij (φ := fun g => pg_m g (pg_i h)) (ψ := fun g => pg_m g h) (fun g hg => ⟨pg_m_pm hg (pg_i_pm hh), pg_can' hg hh⟩) (fun g hg => ⟨pg_m_pm hg hh, pg_can hg hh⟩) (gp_st G j)]
    exact cn_congr (fun g _ => ⟨fun z => z.1, fun z => ⟨z, trivial⟩⟩)
  rw [← e i 181896 (by omega) pg_id_pm, ch_dec hG hc _ hi pg_id_pm, ← cn_nbm]
  refine cn_smc 6 (fun y hy => ?_)
  by_cases k : K i y
  · rw [if_pos (cn_t k), if_pos (cn_t k)]
    exact e (i + 1) _ (by omega) (pg_m_pm (hG.1 _ ((hc i hi y hy).2 k).1.1) pg_id_pm)
  · rw [if_neg (fun z => k (cn_bt.mp z)), if_neg (fun z => k (cn_bt.mp z))]
end
section
theorem cn_nbS (Q : Nat → Prop) (n : Nat) : cn_nb Q (n + 1) = cn_nb Q n + (if cn_b Q n then 1 else 0) := rfl
theorem cn_nbt {Q : Nat → Prop} {n : Nat} (h : Q n) : cn_nb Q (n + 1) = cn_nb Q n + 1 := by rw [cn_nbS, if_pos (cn_t h)]
theorem cn_nbf {Q : Nat → Prop} {n : Nat} (h : ¬ Q n) : cn_nb Q (n + 1) = cn_nb Q n := by rw [cn_nbS, if_neg (fun z => h (cn_bt.mp z))]; rfl
theorem cn_nb_le (Q : Nat → Prop) (n : Nat) : cn_nb Q n ≤ n := by
  induction n with
  | zero => exact Nat.le_refl 0
  | succ n ih =>
    by_cases h : Q n
    · rw [cn_nbt h]; omega
    · rw [cn_nbf h]; omega
theorem cn_nb_mono {Q R : Nat → Prop} (n : Nat) (h : ∀ y, y < n → Q y → R y) : cn_nb Q n ≤ cn_nb R n := by
  induction n with
  | zero => exact Nat.le_refl 0
  | succ n ih =>
    have t := ih (fun y hy => h y (by omega))
    by_cases q : Q n
    · rw [cn_nbt q, cn_nbt (h n (by omega) q)]; omega
    · rw [cn_nbf q]
      by_cases r : R n
      · rw [cn_nbt r]; omega
      · rw [cn_nbf r]; exact t
theorem cn_nb_lt {Q R : Nat → Prop} (n : Nat) (h : ∀ y, y < n → Q y → R y) {z : Nat} (hz : z < n) (hq : ¬ Q z) (hr : R z) : cn_nb Q n < cn_nb R n := by
  induction n with
  | zero => omega
  | succ n ih =>
    by_cases e : z = n
    · subst e
      rw [cn_nbf hq, cn_nbt hr]
      have := cn_nb_mono z (fun y hy => h y (by omega))
      omega
    · have t := ih (fun y hy => h y (by omega)) (by omega)
      by_cases q : Q n
      · rw [cn_nbt q, cn_nbt (h n (by omega) q)]; omega
      · rw [cn_nbf q]
        by_cases r : R n
        · rw [cn_nbt r]; omega
        · rw [cn_nbf r]; exact t
theorem cn_nb_congr {Q R : Nat → Prop} (n : Nat) (h : ∀ y, y < n → (Q y ↔ R y)) : cn_nb Q n = cn_nb R n :=
  Nat.le_antisymm (cn_nb_mono n (fun y hy => (h y hy).mp)) (cn_nb_mono n (fun y hy => (h y hy).mpr))

/-- place k of an array as a number -/
def ch_c (a : Nat → Int32) (k : Nat) : Nat := (a k).toNatClampNeg
/-- the carrier of i to y is known -/
def ch_K (a2 : Nat → Int32) (i y : Nat) : Prop := ¬ a2 (i * 6 + y) = (-4)
def ch_T (a2 : Nat → Int32) (i y : Nat) : Nat := ch_c a2 (i * 6 + y)
/-- the strong generators of level i and later -/
def ch_S (sc : Nat) (a4 a5 : Nat → Int32) (i s : Nat) : Prop := ∃ k, k < sc ∧ i ≤ ch_c a5 k ∧ s = ch_c a4 k
def ch_st (sc : Nat) (a4 a5 : Nat → Int32) : Prop :=
  ∀ k, k < sc → a4 k = nI (ch_c a4 k) ∧ a5 k = nI (ch_c a5 k) ∧ pg_pm (ch_c a4 k) ∧ ch_c a5 k < 6 ∧ ∀ x, x < ch_c a5 k → pg_d (ch_c a4 k) x = x
/-- row i holds what it should -/
def ch_row (S : Nat → Prop) (a2 a3 : Nat → Int32) (i : Nat) : Prop :=
  (ch_K a2 i i ∧ ch_T a2 i i = 181896) ∧ ∀ y, y < 6 → ch_K a2 i y → a2 (i * 6 + y) = nI (ch_T a2 i y) ∧ a3 (i * 6 + y) = nI (pg_i (ch_T a2 i y)) ∧ pg_pm (ch_T a2 i y) ∧ pg_d (ch_T a2 i y) i = y ∧ gp_gen S (ch_T a2 i y)
/-- row i is closed -/
def ch_cl (S : Nat → Prop) (a2 : Nat → Int32) (i : Nat) : Prop := ∀ y, y < 6 → ch_K a2 i y → ∀ s, S s → ch_K a2 i (pg_d s y)
def ch_fc (sc : Nat) (a2 a3 a4 a5 : Nat → Int32) : Prop := ∀ i, i < 6 → ch_row (ch_S sc a4 a5 i) a2 a3 i ∧ ch_cl (ch_S sc a4 a5 i) a2 i
def ch_sf (a2 : Nat → Int32) : Nat → Nat → Nat
  | 0, g => g
  | m + 1, g => if a2 ((5 - m) * 6 + pg_d g (5 - m)) = (-4) then g else ch_sf a2 m (pg_m g (pg_i (ch_T a2 (5 - m) (pg_d g (5 - m)))))
/-- nothing new comes of the products -/
def ch_cs (sc : Nat) (a2 a4 a5 : Nat → Int32) : Prop := ∀ i, i < 6 → ∀ y, y < 6 → ch_K a2 i y → ∀ s, ch_S sc a4 a5 i s → ch_sf a2 6 (pg_m (pg_m (ch_T a2 i y) s) (pg_i (ch_T a2 i (pg_d s y)))) = 181896

theorem ch_S_pm {sc : Nat} {a4 a5 : Nat → Int32} (h : ch_st sc a4 a5) (i : Nat) : ∀ s, ch_S sc a4 a5 i s → pg_pm s := by
  rintro s ⟨k, hk, _, rfl⟩
  exact (h k hk).2.2.1
theorem ch_S_le {sc : Nat} {a4 a5 : Nat → Int32} {i j s : Nat} (hij : i ≤ j) (h : ch_S sc a4 a5 j s) : ch_S sc a4 a5 i s := by
  obtain ⟨k, hk, hl, e⟩ := h
  exact ⟨k, hk, by omega, e⟩
theorem ch_S_fix {sc : Nat} {a4 a5 : Nat → Int32} (h : ch_st sc a4 a5) {i s : Nat} (hs : ch_S sc a4 a5 i s) : ∀ x, x < i → pg_d s x = x := by
  obtain ⟨k, hk, hl, rfl⟩ := hs
  exact fun x hx => (h k hk).2.2.2.2 x (by omega)
theorem ch_g_fix {sc : Nat} {a4 a5 : Nat → Int32} (h : ch_st sc a4 a5) {i u : Nat} (hi : i ≤ 6) (hu : gp_gen (ch_S sc a4 a5 i) u) : ∀ x, x < i → pg_d u x = x :=
  gp_ind (P := fun u => ∀ x, x < i → pg_d u x = x) hu (fun x hx => pg_id_d x (by omega)) (fun a s ha hs x hx => by
    rw [pg_m_d _ _ (by omega), ha x hx]
    exact ch_S_fix h hs x hx)
theorem ch_g_le {sc : Nat} {a4 a5 : Nat → Int32} (h : ch_st sc a4 a5) {i j u : Nat} (hij : i ≤ j) (hu : gp_gen (ch_S sc a4 a5 j) u) : gp_gen (ch_S sc a4 a5 i) u :=
  gp_sub (ch_S_pm h i) (fun s hs => gp_in (ch_S_pm h i) (ch_S_le hij hs)) hu
/-- what a closed row holds: all that the generators reach -/
theorem ch_reach {S : Nat → Prop} (hS : ∀ s, S s → pg_pm s) {a2 : Nat → Int32} {i u : Nat} (hi : i < 6) (h0 : ch_K a2 i i) (hc : ch_cl S a2 i) (hu : gp_gen S u) : ch_K a2 i (pg_d u i) :=
  (gp_ind (P := fun u => pg_pm u ∧ ch_K a2 i (pg_d u i)) hu ⟨pg_id_pm, by rw [pg_id_d i hi]; exact h0⟩ (fun a s ha hs => ⟨pg_m_pm ha.1 (hS s hs), by
    rw [pg_m_d _ _ hi]
    exact hc _ (pg_d_lt ha.1 hi) ha.2 s hs⟩)).2

section
variable {sc : Nat} {a2 a3 a4 a5 : Nat → Int32}
theorem ch_sf_k {i g : Nat} (hi : i < 6) (h : ch_K a2 i (pg_d g i)) : ch_sf a2 (6 - i) g = ch_sf a2 (5 - i) (pg_m g (pg_i (ch_T a2 i (pg_d g i)))) := by
  obtain ⟨m, rfl, hm⟩ : ∃ m, i = 5 - m ∧ m ≤ 5 := ⟨5 - i, by omega, by omega⟩
  · rw [show 6 - (5 - m) = m + 1 by omega, show 5 - (5 - m) = m by omega]
    show (if a2 ((5 - m) * 6 + pg_d g (5 - m)) = (-4) then g else ch_sf a2 m (pg_m g (pg_i (ch_T a2 (5 - m) (pg_d g (5 - m)))))) = _
    rw [if_neg h]
theorem ch_sf_n {i g : Nat} (hi : i < 6) (h : ¬ ch_K a2 i (pg_d g i)) : ch_sf a2 (6 - i) g = g := by
  obtain ⟨m, rfl, hm⟩ : ∃ m, i = 5 - m ∧ m ≤ 5 := ⟨5 - i, by omega, by omega⟩
  · rw [show 6 - (5 - m) = m + 1 by omega]
    show (if a2 ((5 - m) * 6 + pg_d g (5 - m)) = (-4) then g else ch_sf a2 m (pg_m g (pg_i (ch_T a2 (5 - m) (pg_d g (5 - m)))))) = _
    rw [if_pos (Classical.byContradiction h)]
theorem ch_sf_spec (hs : ch_st sc a4 a5) (hr : ∀ i, i < 6 → ch_row (ch_S sc a4 a5 i) a2 a3 i) : ∀ (m i g : Nat), m + i = 6 → pg_pm g → (∀ x, x < i → pg_d g x = x) →
    pg_pm (ch_sf a2 m g) ∧ (∃ u, gp_gen (ch_S sc a4 a5 i) u ∧ g = pg_m (ch_sf a2 m g) u) ∧ (ch_sf a2 m g = 181896 ∨ ∃ j, i ≤ j ∧ j < 6 ∧ (∀ x, x < j → pg_d (ch_sf a2 m g) x = x) ∧ ¬ ch_K a2 j (pg_d (ch_sf a2 m g) j)) := by
  intro m
  induction m with
  | zero =>
    intro i g hm hg hf
    have e : g = 181896 := pg_ext hg.1 (by decide) (fun x hx => by rw [hf x (by omega), pg_id_d x hx])
    exact ⟨hg, ⟨181896, gp_id, (pg_m1 hg).symm⟩, Or.inl e⟩
  | succ m ih =>
    intro i g hm hg hf
    have hi : i < 6 := by omega
    have em : m + 1 = 6 - i := by omega
    by_cases k : ch_K a2 i (pg_d g i)
    · rw [em, ch_sf_k hi k, show 5 - i = m by omega]
      obtain ⟨r1, r2, r3, r4, r5⟩ := (hr i hi).2 (pg_d g i) (pg_d_lt hg hi) k
      have tf := ch_g_fix hs (by omega) r5
      have pg' := pg_m_pm hg (pg_i_pm r3)
      obtain ⟨z1, ⟨u, hu, z2⟩, z3⟩ := ih (i + 1) (pg_m g (pg_i (ch_T a2 i (pg_d g i)))) (by omega) pg' (fun x hx => by
        rw [pg_m_d _ _ (by omega)]
        by_cases e : x = i
        · rw [e]
          exact pg_id_of r3 hi r4
        · rw [hf x (by omega)]
          exact pg_id_of r3 (by omega) (tf x (by omega)))
      refine ⟨z1, ⟨pg_m u (ch_T a2 i (pg_d g i)), gp_mul (ch_S_pm hs i) (ch_g_le hs (by omega) hu) r5, ?_⟩, ?_⟩
      · rw [← pg_assoc z1, ← z2, pg_can' hg r3]
      · rcases z3 with z | ⟨j, j1, j2⟩
        · exact Or.inl z
        · exact Or.inr ⟨j, by omega, j2⟩
    · rw [em, ch_sf_n hi k]
      exact ⟨hg, ⟨181896, gp_id, (pg_m1 hg).symm⟩, Or.inr ⟨i, Nat.le_refl i, hi, hf, k⟩⟩
/-- what sifts away is generated -/
theorem ch_sf_gen (hs : ch_st sc a4 a5) (hr : ∀ i, i < 6 → ch_row (ch_S sc a4 a5 i) a2 a3 i) {i g : Nat} (hi : i ≤ 6) (hg : pg_pm g) (hf : ∀ x, x < i → pg_d g x = x) (h : ch_sf a2 (6 - i) g = 181896) : gp_gen (ch_S sc a4 a5 i) g := by
  obtain ⟨_, ⟨u, hu, e⟩, _⟩ := ch_sf_spec hs hr (6 - i) i g (by omega) hg hf
  rw [h, pg_1m (gp_pm (ch_S_pm hs i) hu)] at e
  rw [e]
  exact hu
theorem ch_sf_stepi (hr : ∀ i, i < 6 → ch_row (ch_S sc a4 a5 i) a2 a3 i) {i g : Nat} (hi : i < 6) (hg : pg_pm g) (hf : pg_d g i = i) : ch_sf a2 (6 - i) g = ch_sf a2 (6 - (i + 1)) g := by
  have r := (hr i hi).1
  rw [ch_sf_k hi (by rw [hf]; exact r.1), hf, r.2, pg_i1, pg_m1 hg, show 5 - i = 6 - (i + 1) by omega]
theorem ch_sf_low (hr : ∀ i, i < 6 → ch_row (ch_S sc a4 a5 i) a2 a3 i) {g : Nat} (hg : pg_pm g) : ∀ i, i ≤ 6 → (∀ x, x < i → pg_d g x = x) → ch_sf a2 6 g = ch_sf a2 (6 - i) g := by
  intro i
  induction i with
  | zero => intro _ _; rfl
  | succ i ih =>
    intro hi hf
    rw [ih (by omega) (fun x hx => hf x (by omega))]
    exact ch_sf_stepi hr (by omega) hg (hf i (by omega))
theorem ch_sf_id (hr : ∀ i, i < 6 → ch_row (ch_S sc a4 a5 i) a2 a3 i) {i : Nat} (hi : i ≤ 6) : ch_sf a2 (6 - i) 181896 = 181896 := by
  rw [← ch_sf_low hr pg_id_pm i hi (fun x hx => pg_id_d x (by omega)), ch_sf_low hr pg_id_pm 6 (by omega) (fun x hx => pg_id_d x (by omega))]
  rfl
/-- Schreier's lemma -/
theorem ch_schreier (hs : ch_st sc a4 a5) (hf : ch_fc sc a2 a3 a4 a5) (hc : ch_cs sc a2 a4 a5) : ∀ (m i : Nat), m + i = 6 → ∀ g, gp_gen (ch_S sc a4 a5 i) g → ch_sf a2 (6 - i) g = 181896 := by
  have hr : ∀ i, i < 6 → ch_row (ch_S sc a4 a5 i) a2 a3 i := fun i hi => (hf i hi).1
  intro m
  induction m with
  | zero =>
    intro i hm g hg
    obtain rfl : i = 6 := by omega
    have e : g = 181896 := gp_ind (P := fun g => g = 181896) hg rfl (fun a s _ h => by
      obtain ⟨k, hk, hl, _⟩ := h
      have := (hs k hk).2.2.2.1
      omega)
    rw [e]
    rfl
  | succ m ih =>
    intro i hm g hg
    have hi : i < 6 := by omega
    have SP := ch_S_pm hs i
    refine (gp_ind (P := fun a => gp_gen (ch_S sc a4 a5 i) a ∧ ch_sf a2 (6 - i) a = 181896) hg ⟨gp_id, ch_sf_id hr (by omega)⟩ (fun a s ha h => ?_)).2
    obtain ⟨ga, fa⟩ := ha
    refine ⟨gp_step ga h, ?_⟩
    have pa := gp_pm SP ga
    have ps := SP s h
    have hy := pg_d_lt pa hi
    have row := (hr i hi).2
    have ka : ch_K a2 i (pg_d a i) := ch_reach SP hi (hr i hi).1.1 (hf i hi).2 ga
    obtain ⟨_, _, pt, t1, gt⟩ := row _ hy ka
    have kz : ch_K a2 i (pg_d s (pg_d a i)) := (hf i hi).2 _ hy ka s h
    obtain ⟨_, _, pt', t1', gt'⟩ := row _ (pg_d_lt ps hy) kz
    have cs := hc i hi _ hy ka s h
    rw [ch_sf_k hi ka] at fa
    rw [ch_sf_k hi (by rw [pg_m_d _ _ hi]; exact kz), pg_m_d _ _ hi]
    revert pt t1 gt pt' t1' gt' cs fa
    generalize ch_T a2 i (pg_d a i) = t
    generalize ch_T a2 i (pg_d s (pg_d a i)) = t'
    intro fa pt t1 gt pt' t1' gt' cs
    have pb := pg_m_pm pa (pg_i_pm pt)
    have pc := pg_m_pm (pg_m_pm pt ps) (pg_i_pm pt')
    have fixi : ∀ u, gp_gen (ch_S sc a4 a5 i) u → pg_d u i = i → ∀ x, x < i + 1 → pg_d u x = x := by
      intro u hu e x hx
      by_cases ex : x = i
      · rw [ex]; exact e
      · exact ch_g_fix hs (by omega) hu x (by omega)
    have gb : gp_gen (ch_S sc a4 a5 (i + 1)) (pg_m a (pg_i t)) := by
      refine ch_sf_gen hs hr (by omega) pb (fixi _ (gp_mul SP ga (gp_inv SP gt)) ?_) (by rw [show 6 - (i + 1) = 5 - i by omega]; exact fa)
      rw [pg_m_d _ _ hi]
      exact pg_id_of pt hi t1
    have fc : ∀ x, x < i + 1 → pg_d (pg_m (pg_m t s) (pg_i t')) x = x := by
      refine fixi _ (gp_mul SP (gp_mul SP gt (gp_in SP h)) (gp_inv SP gt')) ?_
      rw [pg_m_d _ _ hi, pg_m_d _ _ hi, t1]
      exact pg_id_of pt' hi t1'
    have gc : gp_gen (ch_S sc a4 a5 (i + 1)) (pg_m (pg_m t s) (pg_i t')) := by
      refine ch_sf_gen hs hr (by omega) pc fc ?_
      rw [← ch_sf_low hr pc (i + 1) (by omega) fc]
      exact cs
    have w := ih (i + 1) (by omega) _ (gp_mul (ch_S_pm hs (i + 1)) gb gc)
    rw [show pg_m (pg_m a (pg_i t)) (pg_m (pg_m t s) (pg_i t')) = pg_m (pg_m a s) (pg_i t') by
      rw [← pg_assoc pb, ← pg_assoc pb, pg_can' pa pt]] at w
    rw [show 5 - i = 6 - (i + 1) by omega]
    exact w
/-- the chain is that of the group -/
theorem ch_stab (hs : ch_st sc a4 a5) (hf : ch_fc sc a2 a3 a4 a5) (hc : ch_cs sc a2 a4 a5) {G : Nat → Prop} (hG : ∀ u, G u ↔ gp_gen (ch_S sc a4 a5 0) u) : ∀ i, i ≤ 6 → ∀ u, gp_st G i u ↔ gp_gen (ch_S sc a4 a5 i) u := by
  have hr : ∀ i, i < 6 → ch_row (ch_S sc a4 a5 i) a2 a3 i := fun i hi => (hf i hi).1
  intro i
  induction i with
  | zero => intro _ u; rw [gp_st0]; exact hG u
  | succ i ih =>
    intro hi u
    rw [gp_stS, ih (by omega)]
    constructor
    · rintro ⟨gu, e⟩
      have pu := gp_pm (ch_S_pm hs i) gu
      refine ch_sf_gen hs hr hi pu (fun x hx => ?_) ?_
      · by_cases ex : x = i
        · rw [ex]; exact e
        · exact ch_g_fix hs (by omega) gu x (by omega)
      · rw [← ch_sf_stepi hr (by omega) pu e]
        exact ch_schreier hs hf hc (6 - i) i (by omega) u gu
    · intro gu
      exact ⟨ch_g_le hs (by omega) gu, ch_g_fix hs hi gu i (by omega)⟩
theorem ch_done (hs : ch_st sc a4 a5) (hf : ch_fc sc a2 a3 a4 a5) (hc : ch_cs sc a2 a4 a5) {G : Nat → Prop} (hG : ∀ u, G u ↔ gp_gen (ch_S sc a4 a5 0) u) : ch_ok G (ch_K a2) (ch_T a2) := by
  intro i hi y hy
  have st := ch_stab hs hf hc hG i (by omega)
  refine ⟨⟨fun k => ?_, fun k => ?_⟩, fun k => ?_⟩
  · obtain ⟨_, _, _, r4, r5⟩ := (hf i hi).1.2 y hy k
    exact ⟨_, (st _).mpr r5, r4⟩
  · obtain ⟨u, hu, e⟩ := k
    rw [← e]
    exact ch_reach (ch_S_pm hs i) hi (hf i hi).1.1.1 (hf i hi).2 ((st u).mp hu)
  · obtain ⟨_, _, _, r4, r5⟩ := (hf i hi).1.2 y hy k
    exact ⟨(st _).mpr r5, r4⟩
end
end
section
theorem wk_sh : ∀ n, n < 32 → ((nI n &&& 31).toBitVec.smod 32).toNat = n := by decide +kernel
theorem wk_or (a b : Nat) : nI a ||| nI b = nI (a ||| b) := by
  apply Int32.toBitVec_inj.1
  show BitVec.ofNat 32 a ||| BitVec.ofNat 32 b = BitVec.ofNat 32 (a ||| b)
  apply BitVec.eq_of_getLsbD_eq
  intro i hi
  simp [hi]
theorem wk_and7 {n : Nat} (h : n < 2 ^ 32) : nI n &&& 7 = nI (n % 8) := pk_andN h 3 (by decide)
theorem wk_and1 {n : Nat} (h : n < 2 ^ 32) : nI n &&& 1 = nI (n % 2) := pk_andN h 1 (by decide)
theorem wk_shl {n k : Nat} (hk : k < 32) (h : n * 2 ^ k < 2 ^ 32) : nI n <<< (nI k &&& 31) = nI (n * 2 ^ k) := pk_shlN _ k (wk_sh k hk) h
theorem wk_shr {n k : Nat} (hk : k < 32) (h : n < 2 ^ 31) : nI n >>> (nI k &&& 31) = nI (n / 2 ^ k) := pk_shrN h _ k (wk_sh k hk)
theorem wk_3 (x : Nat) : 3 * nI x = nI (3 * x) := pk_mul 3 x
theorem wk_6 (x : Nat) : nI x * 6 = nI (x * 6) := pk_mul x 6
theorem wk_dg {c k : Nat} (hc : c < 2 ^ 31) (hk : k < 32) : (nI c >>> (nI k &&& 31)) &&& 7 = nI (c / 2 ^ k % 8) := by
  rw [wk_shr hk hc, wk_and7 (Nat.lt_of_le_of_lt (Nat.div_le_self _ _) (by omega))]
theorem wk_dig {c x : Nat} (hc : c < 2 ^ 31) (hx : x < 8) : (nI c >>> ((3 * nI x) &&& 31)) &&& 7 = nI (pg_d c x) := by
  rw [wk_3]
  exact wk_dg hc (by omega)
theorem wk_bit {c k : Nat} (hc : c < 2 ^ 31) (hk : k < 32) : (nI c >>> (nI k &&& 31)) &&& 1 = nI (c / 2 ^ k % 2) := by
  rw [wk_shr hk hc, wk_and1 (Nat.lt_of_le_of_lt (Nat.div_le_self _ _) (by omega))]
theorem wk_orA {a b k : Nat} (h : a < 2 ^ k) : nI a ||| nI (b * 2 ^ k) = nI (a + b * 2 ^ k) := by
  rw [wk_or]
  congr 1
  rw [Nat.or_comm, Nat.add_comm, ← Nat.shiftLeft_eq, Nat.shiftLeft_add_eq_or_of_lt h]
theorem wk_v8 {v x : Nat} (hv : v < 8) (hx : x < 8) : v * 2 ^ (3 * x) < 2 ^ 32 := by
  have h1 : 2 ^ (3 * x) ≤ 2 ^ 21 := Nat.pow_le_pow_right (by omega) (by omega)
  have h2 : v * 2 ^ (3 * x) ≤ 7 * 2 ^ 21 := Nat.mul_le_mul (by omega) h1
  omega
section
variable {c0 b0 s0 w0 o0 e0 : Int32} {a1 a2 a3 a4 a5 a6 a7 : Nat → Int32}
theorem wk_digit {post : Int32 → Prop} {c x : Nat} (hc : c < 2 ^ 31) (hx : x < 8) (h : post (nI (pg_d c x))) : wpX_digit post (c0, b0, s0, w0, o0, e0, a1, a2, a3, a4, a5, a6, a7) (nI c) (nI x) := by
  show post ((nI c >>> ((3 * nI x) &&& 31)) &&& 7)
  rw [wk_dig hc hx]
  exact h
theorem wk_times {post : Int32 → Prop} {a b : Nat} (ha : a < 262144) (hb : b < 262144) (h : post (nI (pg_m a b))) : wpX_times post (c0, b0, s0, w0, o0, e0, a1, a2, a3, a4, a5, a6, a7) (nI a) (nI b) := by
  show ∃ n, wX_times_5 post (nI a) (nI b) c0 b0 s0 w0 o0 e0 a1 a2 a3 a4 a5 a6 a7 n 0 0
  refine pk_loop (σ := Unit) (fun n i _ => wX_times_5 post (nI a) (nI b) c0 b0 s0 w0 o0 e0 a1 a2 a3 a4 a5 a6 a7 n (nI (pg_bl (fun x => pg_d b (pg_d a x)) i)) (nI (3 * i))) (fun _ _ => True) 6 0 () (by omega) trivial ?_ ?_
  · intro n _ _
    exact pk_le 18 18 (fun _ => h) (fun z => absurd z (by omega))
  · intro n i _ hi _ hw
    refine pk_le 18 (3 * i) (fun z => absurd z (by omega)) (fun _ => nm_r ?_ (nm_r (nI_add (3 * i) 3) (hw () trivial)))
    have l : pg_bl (fun x => pg_d b (pg_d a x)) i < 2 ^ (3 * i) := pg_bl_lt i (fun x _ => pg_d_lt8 _ _)
    rw [wk_dg (by omega) (by omega)]
    show nI _ ||| (((nI b >>> ((3 * nI (pg_d a i)) &&& 31)) &&& 7) <<< (nI (3 * i) &&& 31)) = _
    rw [wk_dig (by omega) (pg_d_lt8 _ _), wk_shl (by omega) (wk_v8 (pg_d_lt8 _ _) (by omega)), wk_orA l]
    rfl
theorem wk_inverted {post : Int32 → Prop} {a : Nat} (ha : a < 262144) (h : post (nI (pg_i a))) : wpX_inverted post (c0, b0, s0, w0, o0, e0, a1, a2, a3, a4, a5, a6, a7) (nI a) := by
  show ∃ n, wX_inverted_4 post (nI a) c0 b0 s0 w0 o0 e0 a1 a2 a3 a4 a5 a6 a7 n 0 0
  refine pk_loop (σ := Unit) (fun n i _ => wX_inverted_4 post (nI a) c0 b0 s0 w0 o0 e0 a1 a2 a3 a4 a5 a6 a7 n (nI (pg_ir a i)) (nI i)) (fun _ _ => True) 6 0 () (by omega) trivial ?_ ?_
  · intro n _ _
    exact pk_le 6 6 (fun _ => h) (fun z => absurd z (by omega))
  · intro n i _ hi _ hw
    refine pk_le 6 i (fun z => absurd z (by omega)) (fun _ => nm_r ?_ (nm_r (nI_1 i) (hw () trivial)))
    rw [wk_dig (by omega) (by omega), wk_3, wk_shl (by have := pg_d_lt8 a i; omega) (wk_v8 (by omega) (pg_d_lt8 _ _)), wk_or]
    rfl
theorem wk_conjugated {post : Int32 → Prop} {a b : Nat} (ha : pg_pm a) (hb : pg_pm b) (h : post (nI (gp_cj a b))) : wpX_conjugated post (c0, b0, s0, w0, o0, e0, a1, a2, a3, a4, a5, a6, a7) (nI a) (nI b) := by
  unfold wpX_conjugated
  exact wk_inverted hb.1 (wk_times (pg_i_pm hb).1 ha.1 (wk_times (pg_m_lt _ _) hb.1 h))
theorem wk_toS {v c x : Nat} (hc : c < 2 ^ 31) (hx : x < 8) : (nI v * 6) + ((nI c >>> ((3 * nI x) &&& 31)) &&& 7) = nI (v * 6 + pg_d c x) := by
  rw [wk_dig hc hx, wk_6, nI_add]
theorem wk_toOutside {post : Int32 → Prop} {c : Nat} (hc : c < 262144) (h : post (nI (pg_o c))) : wpX_toOutside post (c0, b0, s0, w0, o0, e0, a1, a2, a3, a4, a5, a6, a7) (nI c) := by
  have hc' : c < 2 ^ 31 := by omega
  show ∃ n, wX_toOutside_4 post (nI c) c0 b0 s0 w0 o0 e0 a1 a2 a3 a4 a5 a6 a7 n 0 5
  refine ⟨7, ?_⟩
  refine br_f (by decide) (nm_r (wk_toS (v := 0) (x := 5) hc' (by omega)) (nm_r (pk_m1 4) ?_))
  refine br_f (by decide) (nm_r (wk_toS (x := 4) hc' (by omega)) (nm_r (pk_m1 3) ?_))
  refine br_f (by decide) (nm_r (wk_toS (x := 3) hc' (by omega)) (nm_r (pk_m1 2) ?_))
  refine br_f (by decide) (nm_r (wk_toS (x := 2) hc' (by omega)) (nm_r (pk_m1 1) ?_))
  refine br_f (by decide) (nm_r (wk_toS (x := 1) hc' (by omega)) (nm_r (pk_m1 0) ?_))
  refine br_f (by decide) (nm_r (wk_toS (x := 0) hc' (by omega)) (nm_e ?_))
  refine br_t (by decide) ?_
  have e : (((((0 * 6 + pg_d c 5) * 6 + pg_d c 4) * 6 + pg_d c 3) * 6 + pg_d c 2) * 6 + pg_d c 1) * 6 + pg_d c 0 = pg_o c := by
    unfold pg_o
    omega
  rw [e]
  exact h
theorem wk_p6 (o x : Nat) : o / 6 ^ x / 6 = o / 6 ^ (x + 1) := by
  rw [Nat.div_div_eq_div_mul, Nat.pow_succ]
theorem wk_fromOutside {post : Int32 → Prop} {o : Nat} (ho : o < 2 ^ 31) (h : post (nI (pg_bl (fun x => o / 6 ^ x % 6) 6))) : wpX_fromOutside post (c0, b0, s0, w0, o0, e0, a1, a2, a3, a4, a5, a6, a7) (nI o) := by
  show ∃ n, wX_fromOutside_7 post c0 b0 s0 w0 o0 e0 a1 a2 a3 a4 a5 a6 a7 n 0 (nI o) 0
  have eo : nI o = nI (o / 6 ^ 0) := by rw [Nat.pow_zero, Nat.div_one]
  rw [eo]
  refine pk_loop (σ := Unit) (fun n i _ => wX_fromOutside_7 post c0 b0 s0 w0 o0 e0 a1 a2 a3 a4 a5 a6 a7 n (nI (pg_bl (fun x => o / 6 ^ x % 6) i)) (nI (o / 6 ^ i)) (nI i)) (fun _ _ => True) 6 0 () (by omega) trivial ?_ ?_
  · intro n _ _
    exact pk_le 6 6 (fun _ => h) (fun z => absurd z (by omega))
  · intro n i _ hi _ hw
    have hl : o / 6 ^ i < 2 ^ 31 := Nat.lt_of_le_of_lt (Nat.div_le_self _ _) ho
    refine pk_le 6 i (fun z => absurd z (by omega)) (fun _ => ⟨by decide, nm_r ?_ ⟨by decide, nm_r ((pk_div (d := 6) hl (by omega) (by omega)).trans (by rw [wk_p6])) (nm_r (nI_1 i) (hw () trivial))⟩⟩)
    have e := pk_rem hl (d := 6) (by omega) (by omega)
    have l : pg_bl (fun x => o / 6 ^ x % 6) i < 2 ^ (3 * i) := pg_bl_lt i (fun x _ => Nat.lt_trans (Nat.mod_lt _ (by omega)) (by omega))
    show nI _ ||| ((nI (o / 6 ^ i) - nI (o / 6 ^ i) / nI 6 * nI 6) <<< ((3 * nI i) &&& 31)) = _
    rw [e, wk_3, wk_shl (by omega) (wk_v8 (Nat.lt_trans (Nat.mod_lt _ (by omega)) (by omega)) (by omega)), wk_orA l]
    rfl
end
def pg_sn (o : Nat) : Nat → Nat
  | 0 => 0
  | x + 1 => pg_sn o x ||| 2 ^ (o / 6 ^ x % 6)
theorem pg_o_lt {c : Nat} (h : pg_pm c) : pg_o c < 46656 := by
  have h0 := pg_d_lt h (x := 0) (by omega)
  have h1 := pg_d_lt h (x := 1) (by omega)
  have h2 := pg_d_lt h (x := 2) (by omega)
  have h3 := pg_d_lt h (x := 3) (by omega)
  have h4 := pg_d_lt h (x := 4) (by omega)
  have h5 := pg_d_lt h (x := 5) (by omega)
  unfold pg_o
  omega
theorem pg_o_d {c x : Nat} (h : pg_pm c) (hx : x < 6) : pg_o c / 6 ^ x % 6 = pg_d c x := by
  have h0 := pg_d_lt h (x := 0) (by omega)
  have h1 := pg_d_lt h (x := 1) (by omega)
  have h2 := pg_d_lt h (x := 2) (by omega)
  have h3 := pg_d_lt h (x := 3) (by omega)
  have h4 := pg_d_lt h (x := 4) (by omega)
  have h5 := pg_d_lt h (x := 5) (by omega)
  unfold pg_o
  match x, hx with
  | 0, _ => omega
  | 1, _ => omega
  | 2, _ => omega
  | 3, _ => omega
  | 4, _ => omega
  | 5, _ => omega
theorem pg_o_back {c : Nat} (h : pg_pm c) : pg_bl (fun x => pg_o c / 6 ^ x % 6) 6 = c := by
  have l : ∀ x, x < 6 → (fun x => pg_o c / 6 ^ x % 6) x < 8 := fun x _ => Nat.lt_trans (Nat.mod_lt _ (by omega)) (by omega)
  exact pg_ext (pg_bl_lt 6 l) h.1 (fun x hx => by rw [pg_bl_d 6 l x hx]; exact pg_o_d h hx)
theorem pg_o_sn0 {n : Nat} (hn : n < 720) : pg_sn (pg_o (pg_n n)) 6 = 63 := co_dec (N := 720) (P := fun n => pg_sn (pg_o (pg_n n)) 6 = 63) (by decide +kernel) hn
theorem pg_o_sn {c : Nat} (h : pg_pm c) : pg_sn (pg_o c) 6 = 63 := by
  have t := pg_o_sn0 (pg_sur h).1
  rw [(pg_sur h).2] at t
  exact t
section
variable {c0 b0 s0 w0 o0 e0 : Int32} {a1 a2 a3 a4 a5 a6 a7 : Nat → Int32}
theorem wk_from {post : Int32 → Prop} {c : Nat} (hc : pg_pm c) (h : post (nI c)) : wpX_fromOutside post (c0, b0, s0, w0, o0, e0, a1, a2, a3, a4, a5, a6, a7) (nI (pg_o c)) :=
  wk_fromOutside (by have := pg_o_lt hc; omega) (by rw [pg_o_back hc]; exact h)
theorem wk_1 : (1 : Int32) = nI 1 := rfl
theorem wk_pow {k : Nat} (hk : k < 31) : (1 : Int32) <<< (nI k &&& 31) = nI (2 ^ k) := by
  have l : 2 ^ k ≤ 2 ^ 30 := Nat.pow_le_pow_right (by omega) (by omega)
  have e := wk_shl (n := 1) (k := k) (by omega) (by omega)
  rw [Nat.one_mul] at e
  exact e
theorem wk_bad {post : Int32 → Prop} {c : Nat} (hc : pg_pm c) (h : post 0) : wpX_bad post (c0, b0, s0, w0, o0, e0, a1, a2, a3, a4, a5, a6, a7) (nI (pg_o c)) := by
  have ol := pg_o_lt hc
  generalize ho : pg_o c = o at *
  unfold wpX_bad
  refine br_f (nI_pos (by omega)) (br_t (nI_le (b := 46655) (by omega) (by decide)) ?_)
  have eo : nI o = nI (o / 6 ^ 0) := by rw [Nat.pow_zero, Nat.div_one]
  rw [eo]
  refine pk_loop (σ := Unit) (fun n i _ => wX_bad_19 post c0 b0 s0 w0 o0 e0 a1 a2 a3 a4 a5 a6 a7 n (nI (pg_sn o i)) (nI (o / 6 ^ i)) (nI i)) (fun _ _ => True) 6 0 () (by omega) trivial ?_ ?_
  · intro n _ _
    refine pk_le 6 6 (fun _ => br_t ?_ h) (fun z => absurd z (by omega))
    rw [← ho, pg_o_sn hc]
    rfl
  · intro n i _ hi _ hw
    have hl : o / 6 ^ i < 2 ^ 31 := Nat.lt_of_le_of_lt (Nat.div_le_self _ _) (by omega)
    refine pk_le 6 i (fun z => absurd z (by omega)) (fun _ => ⟨by decide, nm_r ?_ ⟨by decide, nm_r ((pk_div (d := 6) hl (by omega) (by omega)).trans (by rw [wk_p6])) (nm_r (nI_1 i) (hw () trivial))⟩⟩)
    have e := pk_rem hl (d := 6) (by omega) (by omega)
    have l : o / 6 ^ i % 6 < 6 := Nat.mod_lt _ (by omega)
    show nI _ ||| ((1 : Int32) <<< ((nI (o / 6 ^ i) - nI (o / 6 ^ i) / nI 6 * nI 6) &&& 31)) = _
    rw [e, wk_pow (by omega), wk_or]
    rfl
theorem wk_firstMoved {post : Int32 → Prop} {r j : Nat} (hr : r < 262144) (hj : j < 6) (h1 : ∀ x, x < j → pg_d r x = x) (h2 : pg_d r j ≠ j) (h : post (nI j)) : wpX_firstMoved post (c0, b0, s0, w0, o0, e0, a1, a2, a3, a4, a5, a6, a7) (nI r) := by
  show ∃ n, wX_firstMoved_2 post (nI r) c0 b0 s0 w0 o0 e0 a1 a2 a3 a4 a5 a6 a7 n 0
  refine pk_loop (σ := Unit) (fun n i _ => wX_firstMoved_2 post (nI r) c0 b0 s0 w0 o0 e0 a1 a2 a3 a4 a5 a6 a7 n (nI i)) (fun _ _ => True) j 0 () (by omega) trivial ?_ ?_
  · intro n _ _
    exact pk_le 6 j (fun z => absurd z (by omega)) (fun _ => wk_digit (by omega) (by omega) (pk_eq (pg_d r j) j (fun z => absurd z h2) (fun _ => h) (by rfl) (by rfl) (by have := pg_d_lt8 r j; omega) (by omega)))
  · intro n i _ hi _ hw
    refine pk_le 6 i (fun z => absurd z (by omega)) (fun _ => wk_digit (by omega) (by omega) ?_)
    rw [h1 i hi]
    exact br_t rfl (nm_r (nI_1 i) (hw () trivial))
end
end
section
/-- how many points of the set m lie at 6 - f and after -/
def pg_bc (m : Nat) : Nat → Nat
  | 0 => 0
  | f + 1 => pg_bc m f + m / 2 ^ (5 - f) % 2
def pg_no : Nat → Nat → Nat → Nat → Nat
  | 0, _, _, o => o
  | f + 1, m, rest, o => pg_no f (m - 2 ^ pg_pt m (rest % (f + 1))) (rest / (f + 1)) (o + 6 ^ (5 - f) * pg_pt m (rest % (f + 1)))
def pg_fa : Nat → Nat
  | 0 => 1
  | f + 1 => (f + 1) * pg_fa f
theorem pg_nr_mod : ∀ (f m rest out : Nat), pg_nr f m rest out = pg_nr f m (rest % pg_fa f) out
  | 0, _, _, _ => rfl
  | f + 1, m, rest, out => by
    show pg_nr f (m - 2 ^ pg_pt m (rest % (f + 1))) (rest / (f + 1)) (out + pg_pt m (rest % (f + 1)) * 2 ^ (3 * (5 - f))) = pg_nr f (m - 2 ^ pg_pt m (rest % ((f + 1) * pg_fa f) % (f + 1))) (rest % ((f + 1) * pg_fa f) / (f + 1)) (out + pg_pt m (rest % ((f + 1) * pg_fa f) % (f + 1)) * 2 ^ (3 * (5 - f)))
    rw [Nat.mod_mul_right_mod, Nat.mod_mul_right_div_self]
    exact pg_nr_mod f _ _ _
theorem pg_no_mod : ∀ (f m rest out : Nat), pg_no f m rest out = pg_no f m (rest % pg_fa f) out
  | 0, _, _, _ => rfl
  | f + 1, m, rest, out => by
    show pg_no f (m - 2 ^ pg_pt m (rest % (f + 1))) (rest / (f + 1)) (out + 6 ^ (5 - f) * pg_pt m (rest % (f + 1))) = pg_no f (m - 2 ^ pg_pt m (rest % ((f + 1) * pg_fa f) % (f + 1))) (rest % ((f + 1) * pg_fa f) / (f + 1)) (out + 6 ^ (5 - f) * pg_pt m (rest % ((f + 1) * pg_fa f) % (f + 1)))
    rw [Nat.mod_mul_right_mod, Nat.mod_mul_right_div_self]
    exact pg_no_mod f _ _ _
theorem pg_no_o0 {n : Nat} (hn : n < 720) : pg_no 6 63 n 0 = pg_o (pg_n n) := co_dec (N := 720) (P := fun n => pg_no 6 63 n 0 = pg_o (pg_n n)) (by decide +kernel) hn
theorem pg_no_o (j : Nat) : pg_no 6 63 j 0 = pg_o (pg_n (j % 720)) := by
  rw [pg_no_mod]
  show pg_no 6 63 (j % 720) 0 = _
  exact pg_no_o0 (Nat.mod_lt _ (by omega))
/-- taking the s-th point out of the set m -/
def pg_tk (m y : Nat) : Prop := y < 6 ∧ 2 ^ y ≤ m ∧ pg_bc (m - 2 ^ y) 6 + 1 = pg_bc m 6 ∧ nI m &&& (((1 : Int32) <<< (nI y &&& 31)) ^^^ (-1)) = nI (m - 2 ^ y) ∧ (63 - m) ||| 2 ^ y = 63 - (m - 2 ^ y)
theorem pg_tk0 : (List.range 64).all (fun m => (List.range 6).all (fun s => decide (pg_bc m 6 ≤ s) || decide (pg_pt m s < 6 ∧ 2 ^ pg_pt m s ≤ m ∧ pg_bc (m - 2 ^ pg_pt m s) 6 + 1 = pg_bc m 6 ∧ nI m &&& (((1 : Int32) <<< (nI (pg_pt m s) &&& 31)) ^^^ (-1)) = nI (m - 2 ^ pg_pt m s) ∧ (63 - m) ||| 2 ^ pg_pt m s = 63 - (m - 2 ^ pg_pt m s)))) = true := by decide +kernel
theorem pg_tk1 {m s : Nat} (hm : m < 64) (hs : s < 6) (h : s < pg_bc m 6) : pg_tk m (pg_pt m s) := by
  have t := pg_al (pg_al pg_tk0 hm) hs
  have w := of_decide_eq_true (pg_orr t (decide_eq_false (by omega)))
  exact w
theorem pg_cbit : ∀ m, m < 64 → ∀ k, k < 6 → ((63 - m) / 2 ^ k % 2 = 0 ↔ m / 2 ^ k % 2 = 1) := by decide +kernel
theorem wk_b1 {m k : Nat} (hm : m < 2 ^ 31) (hk : k < 32) : (nI m >>> (nI k &&& 31)) &&& 1 = 1 ↔ m / 2 ^ k % 2 = 1 := by
  rw [wk_bit hm hk, wk_1]
  exact nI_eq (by omega) (by omega)
theorem wk_b0 {m k : Nat} (hm : m < 2 ^ 31) (hk : k < 32) : (nI m >>> (nI k &&& 31)) &&& 1 = 0 ↔ m / 2 ^ k % 2 = 0 := by
  rw [wk_bit hm hk, ← nI_0]
  exact nI_eq (by omega) (by omega)
theorem wk_neg {t : Nat} (h1 : 1 ≤ t) (h2 : t ≤ 100) : ¬ nI (4294967296 - t) = 0 := by
  intro e
  have w := pk_tn (n := 4294967296 - t) (by omega)
  rw [e] at w
  have z : (0 : Int32).toBitVec.toNat = 0 := rfl
  omega
theorem wk_negS {t : Nat} (h2 : t ≤ 100) : nI (4294967296 - t) + (-1) = nI (4294967296 - (t + 1)) := by
  rw [show 4294967296 - t = (4294967296 - (t + 1)) + 1 by omega]
  exact pk_m1 _
theorem wk_negP {t : Nat} (h2 : t ≤ 100) : nI (4294967296 - t) - 1 = nI (4294967296 - (t + 1)) := by
  rw [show 4294967296 - t = (4294967296 - (t + 1)) + 1 by omega]
  exact nI_pred _
theorem wk_neg1 : nI 0 + (-1) = nI (4294967296 - 1) := by decide
theorem wk_neg1' : nI 0 - 1 = nI (4294967296 - 1) := by decide
section
variable {c0 b0 s0 w0 o0 e0 : Int32} {a1 a2 a3 a4 a5 a6 a7 : Nat → Int32}
theorem wk_np_b {post : Int32 → Prop} {J : Int32 → Int32 → Int32 → Int32 → Prop} {x2 x4 x5 : Int32} {m y : Nat} (hm : m < 64)
    (H : J (x2 ||| (nI y <<< ((3 * x5) &&& 31))) (nI m &&& (((1 : Int32) <<< (nI y &&& 31)) ^^^ (-1))) x4 (x5 + 1)) :
    ∀ (f t : Nat), f ≤ 6 → 1 ≤ t → t + f ≤ 20 → wX_nthPermutation_44 post J x2 (nI m) x4 x5 c0 b0 s0 w0 o0 e0 a1 a2 a3 a4 a5 a6 a7 (f + 1) (nI (4294967296 - t)) (nI y) (nI (6 - f)) := by
  intro f
  induction f with
  | zero =>
    intro t _ _ _
    exact pk_le 6 6 (fun _ => nm_e (nm_e (nm_e H))) (fun z => absurd z (by omega))
  | succ f ih =>
    intro t hf h1 h2
    have e : nI (6 - (f + 1)) + 1 = nI (6 - f) := by rw [nI_1]; congr 1; omega
    refine pk_le 6 (6 - (f + 1)) (fun z => absurd z (by omega)) (fun _ => ek_if (wk_b1 (by omega) (by omega)) (fun _ => ?_) (fun _ => ?_))
    · exact br_f (wk_neg h1 (by omega)) (nm_r (wk_negS (by omega)) (nm_r e (ih (t + 1) (by omega) (by omega) (by omega))))
    · exact nm_r e (ih t (by omega) h1 (by omega))
theorem wk_np_a {post : Int32 → Prop} {J : Int32 → Int32 → Int32 → Int32 → Prop} {x2 x4 x5 : Int32} {m : Nat} (hm : m < 64) :
    ∀ (f s : Nat), f ≤ 6 → s < 2 ^ 31 → J (x2 ||| (nI (pg_pf m f s) <<< ((3 * x5) &&& 31))) (nI m &&& (((1 : Int32) <<< (nI (pg_pf m f s) &&& 31)) ^^^ (-1))) x4 (x5 + 1) →
    wX_nthPermutation_44 post J x2 (nI m) x4 x5 c0 b0 s0 w0 o0 e0 a1 a2 a3 a4 a5 a6 a7 (f + 1) (nI s) (nI 0) (nI (6 - f)) := by
  intro f
  induction f with
  | zero =>
    intro s _ _ H
    exact pk_le 6 6 (fun _ => nm_e (nm_e (nm_e H))) (fun z => absurd z (by omega))
  | succ f ih =>
    intro s hf hs H
    have e : nI (6 - (f + 1)) + 1 = nI (6 - f) := by rw [nI_1]; congr 1; omega
    have e5 : 6 - (f + 1) = 5 - f := by omega
    unfold pg_pf at H
    refine pk_le 6 (6 - (f + 1)) (fun z => absurd z (by omega)) (fun _ => ek_if (wk_b1 (by omega) (by omega)) (fun b => ?_) (fun b => ?_))
    · rw [e5] at b
      rw [if_pos b] at H
      refine pk_eq s 0 (fun z => ?_) (fun z => ?_)
      · rw [if_pos z, ← e5] at H
        rw [z]
        exact nm_r wk_neg1 (nm_r e (wk_np_b hm H f 1 (by omega) (by omega) (by omega)))
      · rw [if_neg z] at H
        refine nm_r (sb_m1 (by omega)) (nm_r e (ih (s - 1) (by omega) (by omega) H))
    · rw [e5] at b
      rw [if_neg b] at H
      exact nm_r e (ih s (by omega) hs H)
theorem wk_nthPerm {post : Int32 → Prop} : ∀ (f m rest out : Nat), f ≤ 6 → m < 64 → pg_bc m 6 = f → rest < 2 ^ 31 → out < 2 ^ (3 * (6 - f)) → post (nI (pg_nr f m rest out)) →
    wX_nthPermutation_11 post c0 b0 s0 w0 o0 e0 a1 a2 a3 a4 a5 a6 a7 (f + 1) (nI out) (nI m) (nI rest) (nI (6 - f)) := by
  intro f
  induction f with
  | zero =>
    intro m rest out _ _ _ _ _ H
    exact pk_le 6 6 (fun _ => H) (fun z => absurd z (by omega))
  | succ f ih =>
    intro m rest out hf hm hb hr ho H
    have e6 : (6 : Int32) - nI (6 - (f + 1)) = nI (f + 1) := by
      have t := pk_sub (a := 6) (b := 6 - (f + 1)) (by omega)
      rw [show 6 - (6 - (f + 1)) = f + 1 by omega] at t
      exact t
    have sl : rest % (f + 1) < f + 1 := Nat.mod_lt _ (by omega)
    obtain ⟨y6, y1, y2, y3, _⟩ := pg_tk1 hm (s := rest % (f + 1)) (by omega) (by omega)
    refine pk_le 6 (6 - (f + 1)) (fun z => absurd z (by omega)) (fun _ => ?_)
    rw [e6]
    refine ⟨nI_ne0 (by omega) (by omega), nm_r (pk_rem hr (by omega) (by omega)) ⟨nI_ne0 (by omega) (by omega), nm_r (pk_div hr (by omega) (by omega)) ⟨7, ?_⟩⟩⟩
    refine wk_np_a hm 6 _ (by omega) (by omega) ?_
    rw [show pg_pf m 6 (rest % (f + 1)) = pg_pt m (rest % (f + 1)) from rfl, y3, wk_3, wk_shl (by omega) (wk_v8 (by omega) (by omega)), wk_orA ho, nI_1, show 6 - (f + 1) + 1 = 6 - f by omega]
    refine ih _ _ _ (by omega) (Nat.lt_of_le_of_lt (Nat.sub_le _ _) hm) (by omega) (Nat.lt_of_le_of_lt (Nat.div_le_self _ _) hr) ?_ ?_
    · rw [show 3 * (6 - f) = 3 * ((6 - (f + 1)) + 1) by omega, pg_p3]
      have q : pg_pt m (rest % (f + 1)) * 2 ^ (3 * (6 - (f + 1))) ≤ 6 * 2 ^ (3 * (6 - (f + 1))) := Nat.mul_le_mul_right _ (by omega)
      omega
    · rw [show 6 - (f + 1) = 5 - f by omega]
      exact H
theorem wk_nthPermutation {post : Int32 → Prop} {n : Nat} (hn : n < 2 ^ 31) (h : post (nI (pg_n n))) : wpX_nthPermutation post (c0, b0, s0, w0, o0, e0, a1, a2, a3, a4, a5, a6, a7) (nI n) :=
  ⟨7, wk_nthPerm 6 63 n 0 (by omega) (by omega) (by decide) hn (by decide) h⟩
end
theorem wk_pe_b {post : Int32 → Prop} {J : Int32 → Int32 → Int32 → Int32 → Int32 → Prop} {x2 x3 x4 x5 : Int32} {m y : Nat} (hm : m < 64)
    (H : J (nI (63 - m) ||| ((1 : Int32) <<< (nI y &&& 31))) (x2 + (x3 * nI y)) (6 * x3) x4 (x5 + 1)) :
    ∀ (f t : Nat), f ≤ 6 → 1 ≤ t → t + f ≤ 20 → wL_permutation_48 post J (nI (63 - m)) x2 x3 x4 x5 (f + 1) (nI (4294967296 - t)) (nI y) (nI (6 - f)) := by
  intro f
  induction f with
  | zero =>
    intro t _ _ _
    exact pk_le 6 6 (fun _ => nm_e (nm_e (nm_e (nm_e H)))) (fun z => absurd z (by omega))
  | succ f ih =>
    intro t hf h1 h2
    have e : nI (6 - (f + 1)) + 1 = nI (6 - f) := by rw [nI_1]; congr 1; omega
    refine pk_le 6 (6 - (f + 1)) (fun z => absurd z (by omega)) (fun _ => ek_if (wk_b0 (by omega) (by omega)) (fun _ => ?_) (fun _ => ?_))
    · unfold wL_permutation_69 wL_permutation_91 wL_permutation_93
      exact br_f (by decide) (br_f (wk_neg h1 (by omega)) (br_f (by decide) (nm_r (wk_negP (by omega)) (nm_r e (ih (t + 1) (by omega) (by omega) (by omega))))))
    · unfold wL_permutation_69 wL_permutation_91 wL_permutation_93
      exact br_t rfl (br_t rfl (nm_r e (ih t (by omega) h1 (by omega))))
theorem wk_pe_a {post : Int32 → Prop} {J : Int32 → Int32 → Int32 → Int32 → Int32 → Prop} {x2 x3 x4 x5 : Int32} {m : Nat} (hm : m < 64) :
    ∀ (f s : Nat), f ≤ 6 → s < pg_bc m f → s < 2 ^ 31 → J (nI (63 - m) ||| ((1 : Int32) <<< (nI (pg_pf m f s) &&& 31))) (x2 + (x3 * nI (pg_pf m f s))) (6 * x3) x4 (x5 + 1) →
    wL_permutation_48 post J (nI (63 - m)) x2 x3 x4 x5 (f + 1) (nI s) (-1) (nI (6 - f)) := by
  intro f
  induction f with
  | zero =>
    intro s _ hb _ _
    exact absurd hb (Nat.not_lt_zero _)
  | succ f ih =>
    intro s hf hb hs H
    have e : nI (6 - (f + 1)) + 1 = nI (6 - f) := by rw [nI_1]; congr 1; omega
    have e5 : 6 - (f + 1) = 5 - f := by omega
    unfold pg_pf at H
    unfold pg_bc at hb
    refine pk_le 6 (6 - (f + 1)) (fun z => absurd z (by omega)) (fun _ => ek_if (wk_b0 (by omega) (by omega)) (fun b => ?_) (fun b => ?_))
    · rw [pg_cbit m hm _ (by omega), e5] at b
      rw [if_pos b] at H
      unfold wL_permutation_69 wL_permutation_91 wL_permutation_93
      refine br_f (by decide) (pk_eq s 0 (fun z => ?_) (fun z => ?_))
      · rw [if_pos z, ← e5] at H
        rw [z]
        exact br_f (by decide) (br_f (by decide) (nm_r wk_neg1' (nm_r e (wk_pe_b hm H f 1 (by omega) (by omega) (by omega)))))
      · rw [if_neg z] at H
        have ep : nI s - 1 = nI (s - 1) := by
          have t := nI_pred (s - 1)
          rw [show s - 1 + 1 = s by omega] at t
          exact t
        exact br_f (by decide) (nm_r ep (nm_r e (ih (s - 1) (by omega) (by omega) (by omega) H)))
    · rw [pg_cbit m hm _ (by omega), e5] at b
      rw [if_neg b] at H
      unfold wL_permutation_69 wL_permutation_91 wL_permutation_93
      exact br_t rfl (br_t rfl (nm_r e (ih s (by omega) (by omega) hs H)))
theorem wk_perm {post : Int32 → Prop} : ∀ (f m rest o : Nat), f ≤ 6 → m < 64 → pg_bc m 6 = f → rest < 2 ^ 31 → post (nI (pg_no f m rest o)) →
    wL_permutation_15 post (f + 1) (nI (63 - m)) (nI o) (nI (6 ^ (6 - f))) (nI rest) (nI (6 - f)) := by
  intro f
  induction f with
  | zero =>
    intro m rest out _ _ _ _ H
    exact pk_le 6 6 (fun _ => H) (fun z => absurd z (by omega))
  | succ f ih =>
    intro m rest out hf hm hb hr H
    have e6 : (6 : Int32) - nI (6 - (f + 1)) = nI (f + 1) := by
      have t := pk_sub (a := 6) (b := 6 - (f + 1)) (by omega)
      rw [show 6 - (6 - (f + 1)) = f + 1 by omega] at t
      exact t
    have sl : rest % (f + 1) < f + 1 := Nat.mod_lt _ (by omega)
    obtain ⟨y6, y1, y2, _, y3⟩ := pg_tk1 hm (s := rest % (f + 1)) (by omega) (by omega)
    refine pk_le 6 (6 - (f + 1)) (fun z => absurd z (by omega)) (fun _ => ?_)
    rw [e6]
    refine ⟨nI_ne0 (by omega) (by omega), nm_r (pk_rem hr (by omega) (by omega)) ⟨nI_ne0 (by omega) (by omega), nm_r (pk_div hr (by omega) (by omega)) ⟨7, ?_⟩⟩⟩
    refine wk_pe_a hm 6 _ (by omega) (by omega) (by omega) ?_
    rw [show pg_pf m 6 (rest % (f + 1)) = pg_pt m (rest % (f + 1)) from rfl, wk_pow (by omega), wk_or, y3, pk_mul, nI_add, nI_1, show 6 - (f + 1) + 1 = 6 - f by omega,
      show (6 : Int32) * nI (6 ^ (6 - (f + 1))) = nI (6 ^ (6 - f)) by
        rw [show 6 - f = (6 - (f + 1)) + 1 by omega, Nat.pow_succ, Nat.mul_comm]
        exact pk_mul 6 _]
    refine ih _ _ _ (by omega) (Nat.lt_of_le_of_lt (Nat.sub_le _ _) hm) (by omega) (Nat.lt_of_le_of_lt (Nat.div_le_self _ _) hr) ?_
    rw [show 6 - (f + 1) = 5 - f by omega]
    exact H
theorem wk_permutation {post : Int32 → Prop} {p : Int32} (h : ∀ c, pg_pm c → post (nI (pg_o c))) : wpL_permutation post () p := by
  unfold wpL_permutation
  obtain ⟨j, hj, e⟩ := pk_andE p (m := 65535) 16 (by decide)
  refine nm_r e ⟨7, wk_perm 6 63 j 0 (by omega) (by omega) (by decide) (by omega) ?_⟩
  rw [pg_no_o]
  exact h _ (pg_n_pm (Nat.mod_lt _ (by omega)))
end
section
theorem wk_ixe (i y : Nat) : nI i * 6 + nI y = nI (i * 6 + y) := by rw [wk_6, nI_add]
theorem wk_ix {i y : Nat} (hi : i < 6) (hy : y < 6) : (nI i * 6 + nI y).toNatClampNeg = i * 6 + y := by
  rw [wk_ixe]
  exact nI_clamp (by omega)
theorem wk_in {i y : Nat} (hi : i < 6) (hy : y < 6) : vp_in (nI i * 6 + nI y) 36 := by
  rw [wk_ixe]
  exact vp_in_nI (by omega) (by omega)
theorem cn_nb_pos {Q : Nat → Prop} {n y : Nat} (hy : y < n) (h : Q y) : 0 < cn_nb Q n := by
  have t := cn_nb_lt (Q := fun _ => False) (R := Q) n (fun _ _ z => absurd z (fun z => z)) hy (fun z => z) h
  omega
/-- extend has gone from (a2, a3) to (b2, b3) -/
def ch_ext (S : Nat → Prop) (i : Nat) (a2 a3 b2 b3 : Nat → Int32) : Prop :=
  ch_row S b2 b3 i ∧ (∀ y, y < 6 → ch_K a2 i y → ch_K b2 i y) ∧ (∀ k, k / 6 ≠ i → b2 k = a2 k ∧ b3 k = a3 k)
theorem ch_c_nI {a : Nat → Int32} {k n : Nat} (h : a k = nI n) (hn : n < 2 ^ 31) : ch_c a k = n := by
  unfold ch_c
  rw [h]
  exact nI_clamp hn
theorem wk_nm4 {n : Nat} (hn : n < 2 ^ 31) : ¬ nI n = (-4) := by
  intro e
  have h := nI_pos hn
  rw [e] at h
  exact h (by decide)
/-- one more carrier -/
theorem ch_ext_put {S : Nat → Prop} (hS : ∀ s, S s → pg_pm s) {i : Nat} (hi : i < 6) {a2 a3 b2 b3 : Nat → Int32} (h : ch_ext S i a2 a3 b2 b3) {y s : Nat} (hy : y < 6) (ky : ch_K b2 i y) (hs : S s) (kz : ¬ ch_K b2 i (pg_d s y)) :
    ch_ext S i a2 a3 (upd b2 (i * 6 + pg_d s y) (nI (pg_m (ch_T b2 i y) s))) (upd b3 (i * 6 + pg_d s y) (nI (pg_i (pg_m (ch_T b2 i y) s)))) ∧ ch_K (upd b2 (i * 6 + pg_d s y) (nI (pg_m (ch_T b2 i y) s))) i (pg_d s y) ∧ ∀ y', y' < 6 → ch_K b2 i y' → ch_K (upd b2 (i * 6 + pg_d s y) (nI (pg_m (ch_T b2 i y) s))) i y' := by
  obtain ⟨⟨⟨k0, t0⟩, hr⟩, hk, ho⟩ := h
  obtain ⟨_, _, pt, ti, gt⟩ := hr y hy ky
  have ps := hS s hs
  have hz := pg_d_lt ps hy
  have pm := pg_m_pm pt ps
  have ml := pm.1
  revert pt ti gt pm ml
  generalize ch_T b2 i y = t
  intro pt ti gt pm ml
  generalize ez : pg_d s y = z at *
  have kn : ∀ y', y' ≠ z → i * 6 + y' ≠ i * 6 + z := fun y' h => by omega
  have kz' : ch_K (upd b2 (i * 6 + z) (nI (pg_m t s))) i z := by
    unfold ch_K
    rw [pk_us]
    exact wk_nm4 (by omega)
  have Kn : ∀ y', y' ≠ z → (ch_K (upd b2 (i * 6 + z) (nI (pg_m t s))) i y' ↔ ch_K b2 i y') := by
    intro y' h
    unfold ch_K
    rw [pk_un (kn y' h)]
  have Tn : ∀ y', y' ≠ z → ch_T (upd b2 (i * 6 + z) (nI (pg_m t s))) i y' = ch_T b2 i y' := by
    intro y' h
    unfold ch_T ch_c
    rw [pk_un (kn y' h)]
  have Tz : ch_T (upd b2 (i * 6 + z) (nI (pg_m t s))) i z = pg_m t s := ch_c_nI pk_us (by omega)
  have iz : i ≠ z := fun e => kz (e ▸ k0)
  have keep : ∀ y', y' < 6 → ch_K b2 i y' → ch_K (upd b2 (i * 6 + z) (nI (pg_m t s))) i y' := by
    intro y' _ h
    by_cases e : y' = z
    · rw [e]; exact kz'
    · exact (Kn y' e).mpr h
  refine ⟨⟨⟨⟨keep i hi k0, by rw [Tn i iz]; exact t0⟩, fun y' hy' ky' => ?_⟩, fun y' hy' h => keep y' hy' (hk y' hy' h), fun k h => ?_⟩, kz', keep⟩
  · by_cases e : y' = z
    · subst e
      rw [Tz, pk_us, pk_us]
      refine ⟨rfl, rfl, pm, ?_, gp_step gt hs⟩
      rw [pg_m_d _ _ hi, ti, ez]
    · rw [Tn y' e, pk_un (kn y' e), pk_un (kn y' e)]
      exact hr y' hy' ((Kn y' e).mp ky')
  · rw [pk_un (by omega), pk_un (by omega)]
    exact ho k h
section
variable {c0 b0 w0 o0 e0 : Int32} {a1 a2 a3 a4 a5 a6 a7 : Nat → Int32} {sc : Nat}
theorem wk_ext_in {post : St1 → Prop} {J : Int32 → (Nat → Int32) → (Nat → Int32) → (Nat → Int32) → (Nat → Int32) → (Nat → Int32) → (Nat → Int32) → (Nat → Int32) → Prop} {A2 A3 : Nat → Int32} {i y : Nat}
    (hs : ch_st sc a4 a5) (hsc : sc ≤ 40) (hi : i < 6) (hy : y < 6) (h : ch_ext (ch_S sc a4 a5 i) i A2 A3 a2 a3)
    (H : ∀ b2 b3, ch_ext (ch_S sc a4 a5 i) i A2 A3 b2 b3 → (∀ y', y' < 6 → ch_K a2 i y' → ch_K b2 i y') → (ch_K a2 i y → ∀ s, ch_S sc a4 a5 i s → ch_K b2 i (pg_d s y)) → J (nI (y + 1)) a1 b2 b3 a4 a5 a6 a7) :
    ∃ n, wX_extend_10 post J (nI i) (nI y) c0 b0 (nI sc) w0 o0 e0 n 0 a1 a2 a3 a4 a5 a6 a7 := by
  refine pk_loop (σ := (Nat → Int32) × (Nat → Int32)) (fun n k s => wX_extend_10 post J (nI i) (nI y) c0 b0 (nI sc) w0 o0 e0 n (nI k) a1 s.1 s.2 a4 a5 a6 a7)
    (fun k s => ch_ext (ch_S sc a4 a5 i) i A2 A3 s.1 s.2 ∧ (∀ y', y' < 6 → ch_K a2 i y' → ch_K s.1 i y') ∧ (ch_K a2 i y → ∀ k', k' < k → i ≤ ch_c a5 k' → ch_K s.1 i (pg_d (ch_c a4 k') y))) sc 0 (a2, a3) (by omega) ⟨h, fun _ _ z => z, fun _ k' hk' => absurd hk' (by omega)⟩ ?_ ?_
  · rintro n ⟨b2, b3⟩ ⟨q1, q2, q3⟩
    refine pk_le sc sc (fun _ => nm_r (nI_1 y) (H b2 b3 q1 q2 (fun k s hS => ?_))) (fun z => absurd z (by omega))
    obtain ⟨k', hk', hl, rfl⟩ := hS
    exact q3 k k' hk' hl
  · rintro n k ⟨b2, b3⟩ hk ⟨q1, q2, q3⟩ hw
    dsimp only at hw q1 q2 q3 ⊢
    obtain ⟨e4, e5, ps, l6, _⟩ := hs k hk
    have go : (∀ k', k' < k + 1 → ch_K a2 i y → i ≤ ch_c a5 k' → ch_K b2 i (pg_d (ch_c a4 k') y)) → wX_extend_10 post J (nI i) (nI y) c0 b0 (nI sc) w0 o0 e0 n (nI (k + 1)) a1 b2 b3 a4 a5 a6 a7 :=
      fun w => hw (b2, b3) ⟨q1, q2, fun ka k' hk' hl => w k' hk' ka hl⟩
    have old : ∀ k', k' < k + 1 → k' ≠ k → ch_K a2 i y → i ≤ ch_c a5 k' → ch_K b2 i (pg_d (ch_c a4 k') y) := fun k' h1 h2 ka hl => q3 ka k' (by omega) hl
    refine pk_le sc k (fun z => absurd z (by omega)) (fun _ => ⟨pk_in k 40 (by omega), ?_⟩)
    rw [nI_clamp (show k < 2 ^ 31 by omega), wk_ix hi hy]
    refine pk_lt (ch_c a5 k) i (fun hlt => nm_r (nI_1 k) (go (fun k' hk' ka hl => ?_))) (fun hle => ⟨wk_in hi hy, ?_⟩) e5
    · by_cases e : k' = k
      · rw [e] at hl; omega
      · exact old k' hk' e ka hl
    · refine br_c (fun z => nm_r (nI_1 k) (go (fun k' hk' ka hl => absurd z (q2 y hy ka)))) (fun kb => ⟨pk_in k 40 (by omega), ?_⟩)
      rw [e4]
      have hS : ch_S sc a4 a5 i (ch_c a4 k) := ⟨k, hk, hle, rfl⟩
      have hz := pg_d_lt ps hy
      refine wk_digit (by have := ps.1; omega) (by omega) ⟨wk_in hi hz, ?_⟩
      rw [wk_ix hi hz]
      refine br_c (fun z => ⟨wk_in hi hy, pk_in k 40 (by omega), ?_⟩) (fun kz => nm_r (nI_1 k) (go (fun k' hk' ka hl => ?_)))
      · obtain ⟨r1, r2, r3, _, _⟩ := q1.1.2 y hy kb
        rw [r1]
        obtain ⟨p1, p2, p3⟩ := ch_ext_put (ch_S_pm hs i) hi q1 hy kb hS (fun w => w z)
        refine wk_times r3.1 ps.1 ⟨wk_in hi hz, nm_e ⟨wk_in hi hz, ?_⟩⟩
        rw [pk_us]
        refine wk_inverted (pg_m_lt _ _) ⟨wk_in hi hz, nm_e (nm_r (nI_1 k) (hw (_, _) ⟨p1, fun y' hy' h => p3 y' hy' (q2 y' hy' h), fun ka k' hk' hl => ?_⟩))⟩
        by_cases e : k' = k
        · rw [e]; exact p2
        · exact p3 _ (pg_d_lt (hs k' (by omega)).2.2.1 hy) (old k' hk' e ka hl)
      · by_cases e : k' = k
        · rw [e]; exact kz
        · exact old k' hk' e ka hl
theorem wk_extend {post : St1 → Prop} {i : Nat} (hs : ch_st sc a4 a5) (hsc : sc ≤ 40) (hi : i < 6) (h : ch_row (ch_S sc a4 a5 i) a2 a3 i)
    (H : ∀ b2 b3, ch_ext (ch_S sc a4 a5 i) i a2 a3 b2 b3 → (∀ y, y < 6 → ch_K a2 i y → ∀ s, ch_S sc a4 a5 i s → ch_K b2 i (pg_d s y)) → post (c0, b0, nI sc, w0, o0, e0, a1, b2, b3, a4, a5, a6, a7)) :
    wpX_extend post (c0, b0, nI sc, w0, o0, e0, a1, a2, a3, a4, a5, a6, a7) (nI i) := by
  show ∃ n, wX_extend_2 post (nI i) c0 b0 (nI sc) w0 o0 e0 n 0 a1 a2 a3 a4 a5 a6 a7
  refine pk_loop (σ := (Nat → Int32) × (Nat → Int32)) (fun n y s => wX_extend_2 post (nI i) c0 b0 (nI sc) w0 o0 e0 n (nI y) a1 s.1 s.2 a4 a5 a6 a7)
    (fun y s => ch_ext (ch_S sc a4 a5 i) i a2 a3 s.1 s.2 ∧ (∀ y', y' < y → ch_K a2 i y' → ∀ t, ch_S sc a4 a5 i t → ch_K s.1 i (pg_d t y'))) 6 0 (a2, a3) (by omega) ⟨⟨h, fun _ _ z => z, fun _ _ => ⟨rfl, rfl⟩⟩, fun y' hy' => absurd hy' (by omega)⟩ ?_ ?_
  · rintro n ⟨b2, b3⟩ ⟨q1, q2⟩
    exact pk_le 6 6 (fun _ => H b2 b3 q1 q2) (fun z => absurd z (by omega))
  · rintro n y ⟨b2, b3⟩ hy ⟨q1, q2⟩ hw
    refine pk_le 6 y (fun z => absurd z (by omega)) (fun _ => wk_ext_in hs hsc hi hy q1 (fun d2 d3 r1 r2 r3 => hw (d2, d3) ⟨r1, fun y' hy' ka t ht => ?_⟩))
    by_cases e : y' = y
    · rw [e] at ka ⊢
      exact r3 (q1.2.1 y hy ka) t ht
    · exact r2 _ (pg_d_lt (ch_S_pm hs i t ht) (by omega)) (q2 y' (by omega) ka t ht)
theorem ch_row_congr {S : Nat → Prop} {b2 b3 : Nat → Int32} {i : Nat} (hi : i < 6) (e : ∀ y, y < 6 → b2 (i * 6 + y) = a2 (i * 6 + y) ∧ b3 (i * 6 + y) = a3 (i * 6 + y)) (h : ch_row S a2 a3 i) : ch_row S b2 b3 i := by
  have eK : ∀ y, y < 6 → (ch_K b2 i y ↔ ch_K a2 i y) := by
    intro y hy
    unfold ch_K
    rw [(e y hy).1]
  have eT : ∀ y, y < 6 → ch_T b2 i y = ch_T a2 i y := by
    intro y hy
    unfold ch_T ch_c
    rw [(e y hy).1]
  obtain ⟨⟨h1, h2⟩, h3⟩ := h
  refine ⟨⟨(eK i hi).mpr h1, by rw [eT i hi]; exact h2⟩, fun y hy k => ?_⟩
  rw [(e y hy).1, (e y hy).2, eT y hy]
  exact h3 y hy ((eK y hy).mp k)
theorem ch_cl_congr {S : Nat → Prop} (hS : ∀ s, S s → pg_pm s) {b2 : Nat → Int32} {i : Nat} (e : ∀ y, y < 6 → b2 (i * 6 + y) = a2 (i * 6 + y)) (h : ch_cl S a2 i) : ch_cl S b2 i := by
  have eK : ∀ y, y < 6 → (ch_K b2 i y ↔ ch_K a2 i y) := by
    intro y hy
    unfold ch_K
    rw [e y hy]
  intro y hy k s hs
  exact (eK _ (pg_d_lt (hS s hs) hy)).mpr (h y hy ((eK y hy).mp k) s hs)
/-- a closed row stays closed under extend -/
theorem ch_cl_keep {S : Nat → Prop} (hS : ∀ s, S s → pg_pm s) {b2 b3 d2 d3 : Nat → Int32} {i : Nat} (hi : i < 6) (h0 : ch_K b2 i i) (hc : ch_cl S b2 i) (h : ch_ext S i b2 b3 d2 d3) : ch_cl S d2 i := by
  intro y hy k s hs
  obtain ⟨_, _, _, r4, r5⟩ := h.1.2 y hy k
  have w := ch_reach hS hi h0 hc r5
  rw [r4] at w
  exact h.2.1 _ (pg_d_lt (hS s hs) hy) (hc y hy w s hs)
theorem wk_fc_58 {post : St1 → Prop} {J : Int32 → Int32 → Int32 → Int32 → Int32 → Int32 → Int32 → (Nat → Int32) → (Nat → Int32) → (Nat → Int32) → (Nat → Int32) → (Nat → Int32) → (Nat → Int32) → (Nat → Int32) → Prop} {i : Nat}
    (hs : ch_st sc a4 a5) (hsc : sc ≤ 40) (hi : i < 6) (h : ch_row (ch_S sc a4 a5 i) a2 a3 i)
    (H : ∀ b2 b3, ch_ext (ch_S sc a4 a5 i) i a2 a3 b2 b3 → ch_cl (ch_S sc a4 a5 i) b2 i → J (nI (i + 1)) c0 b0 (nI sc) w0 o0 e0 a1 b2 b3 a4 a5 a6 a7) :
    ∃ n, wX_findCarriers_58 post J (nI i) n 0 c0 b0 (nI sc) w0 o0 e0 a1 a2 a3 a4 a5 a6 a7 := by
  refine pk_loop (σ := (Nat → Int32) × (Nat → Int32)) (fun n r s => wX_findCarriers_58 post J (nI i) n (nI r) c0 b0 (nI sc) w0 o0 e0 a1 s.1 s.2 a4 a5 a6 a7)
    (fun r s => ch_ext (ch_S sc a4 a5 i) i a2 a3 s.1 s.2 ∧ (ch_cl (ch_S sc a4 a5 i) s.1 i ∨ r < cn_nb (ch_K s.1 i) 6)) 6 0 (a2, a3) (by omega) ⟨⟨h, fun _ _ z => z, fun _ _ => ⟨rfl, rfl⟩⟩, Or.inr (cn_nb_pos hi h.1.1)⟩ ?_ ?_
  · rintro n ⟨b2, b3⟩ ⟨q1, q2⟩
    refine pk_le 6 6 (fun _ => nm_r (nI_1 i) (H b2 b3 q1 ?_)) (fun z => absurd z (by omega))
    rcases q2 with z | z
    · exact z
    · have := cn_nb_le (ch_K b2 i) 6
      dsimp only at z
      omega
  · rintro n r ⟨b2, b3⟩ hr ⟨q1, q2⟩ hw
    refine pk_le 6 r (fun z => absurd z (by omega)) (fun _ => wk_extend hs hsc hi q1.1 (fun d2 d3 r1 r2 => nm_r (nI_1 r) (hw (d2, d3) ⟨⟨r1.1, fun y hy k => r1.2.1 y hy (q1.2.1 y hy k), fun k hk => ?_⟩, ?_⟩)))
    · exact ⟨(r1.2.2 k hk).1.trans (q1.2.2 k hk).1, (r1.2.2 k hk).2.trans (q1.2.2 k hk).2⟩
    · by_cases c : ch_cl (ch_S sc a4 a5 i) b2 i
      · exact Or.inl (ch_cl_keep (ch_S_pm hs i) hi q1.1.1.1 c r1)
      · have q3 : r < cn_nb (ch_K b2 i) 6 := q2.resolve_left c
        refine Or.inr ?_
        have ex : ∃ z, z < 6 ∧ ¬ ch_K b2 i z ∧ ch_K d2 i z := by
          refine Classical.byContradiction (fun ne => c (fun y hy k s hS => ?_))
          refine Classical.byContradiction (fun nk => ne ⟨pg_d s y, pg_d_lt (ch_S_pm hs i s hS) hy, nk, r2 y hy k s hS⟩)
        obtain ⟨z, z1, z2, z3⟩ := ex
        have := cn_nb_lt 6 r1.2.1 z1 z2 z3
        dsimp only at this ⊢
        omega
theorem wk_fc_24 {post : St1 → Prop} (hs : ch_st sc a4 a5) (hsc : sc ≤ 40) (h : ∀ k, k < 36 → a2 k = (-4))
    (H : ∀ b2 b3, ch_fc sc b2 b3 a4 a5 → post (c0, b0, nI sc, w0, o0, e0, a1, b2, b3, a4, a5, a6, a7)) :
    ∃ n, wX_findCarriers_24 post n 0 c0 b0 (nI sc) w0 o0 e0 a1 a2 a3 a4 a5 a6 a7 := by
  refine pk_loop (σ := (Nat → Int32) × (Nat → Int32)) (fun n i s => wX_findCarriers_24 post n (nI i) c0 b0 (nI sc) w0 o0 e0 a1 s.1 s.2 a4 a5 a6 a7)
    (fun i s => (∀ j, j < i → ch_row (ch_S sc a4 a5 j) s.1 s.2 j ∧ ch_cl (ch_S sc a4 a5 j) s.1 j) ∧ ∀ k, i * 6 ≤ k → k < 36 → s.1 k = (-4)) 6 0 (a2, a3) (by omega) ⟨fun j hj => absurd hj (by omega), fun k _ hk => h k hk⟩ ?_ ?_
  · rintro n ⟨b2, b3⟩ ⟨q1, _⟩
    exact pk_le 6 6 (fun _ => H b2 b3 q1) (fun z => absurd z (by omega))
  · rintro n i ⟨b2, b3⟩ hi ⟨q1, q2⟩ hw
    dsimp only at q1 q2
    refine pk_le 6 i (fun z => absurd z (by omega)) (fun _ => ⟨wk_in hi hi, nm_r (by rw [wk_ix hi hi]) ⟨wk_in hi hi, nm_r (by rw [wk_ix hi hi]) ?_⟩⟩)
    have Kn : ∀ y, y < 6 → y ≠ i → ¬ ch_K (upd b2 (i * 6 + i) 181896) i y := by
      intro y hy e k
      unfold ch_K at k
      rw [pk_un (by omega)] at k
      exact k (q2 _ (by omega) (by omega))
    have Ti : ch_T (upd b2 (i * 6 + i) 181896) i i = 181896 := ch_c_nI (n := 181896) pk_us (by decide)
    have row : ch_row (ch_S sc a4 a5 i) (upd b2 (i * 6 + i) 181896) (upd b3 (i * 6 + i) 181896) i := by
      refine ⟨⟨?_, Ti⟩, fun y hy k => ?_⟩
      · unfold ch_K
        rw [pk_us]
        decide
      · by_cases e : y = i
        · subst e
          rw [Ti, pk_us, pk_us, pg_i1]
          exact ⟨rfl, rfl, pg_id_pm, pg_id_d y hy, gp_id⟩
        · exact absurd k (Kn y hy e)
    refine wk_fc_58 hs hsc hi row (fun d2 d3 r1 r2 => hw (d2, d3) ⟨fun j hj => ?_, fun k h1 h2 => ?_⟩)
    · by_cases e : j = i
      · rw [e]
        exact ⟨r1.1, r2⟩
      · have eq : ∀ y, y < 6 → d2 (j * 6 + y) = b2 (j * 6 + y) ∧ d3 (j * 6 + y) = b3 (j * 6 + y) := by
          intro y hy
          have o := r1.2.2 (j * 6 + y) (by omega)
          rw [pk_un (by omega), pk_un (by omega)] at o
          exact o
        exact ⟨ch_row_congr (by omega) eq (q1 j (by omega)).1, ch_cl_congr (ch_S_pm hs j) (fun y hy => (eq y hy).1) (q1 j (by omega)).2⟩
    · have o := (r1.2.2 k (by omega)).1
      rw [pk_un (by omega)] at o
      exact o.trans (q2 k (by omega) h2)
theorem wk_findCarriers {post : St1 → Prop} (hs : ch_st sc a4 a5) (hsc : sc ≤ 40)
    (H : ∀ b2 b3, ch_fc sc b2 b3 a4 a5 → post (c0, b0, nI sc, w0, o0, e0, a1, b2, b3, a4, a5, a6, a7)) :
    wpX_findCarriers post (c0, b0, nI sc, w0, o0, e0, a1, a2, a3, a4, a5, a6, a7) := by
  show ∃ n, wX_findCarriers_2 post c0 b0 (nI sc) w0 o0 e0 n 0 a1 a2 a3 a4 a5 a6 a7
  refine pk_loop (fun n k s => wX_findCarriers_2 post c0 b0 (nI sc) w0 o0 e0 n (nI k) a1 s a3 a4 a5 a6 a7) (fun k s => ∀ k', k' < k → s k' = (-4)) 36 0 a2 (by omega) (fun k' hk' => absurd hk' (by omega)) ?_ ?_
  · intro n s q
    exact pk_le 36 36 (fun _ => wk_fc_24 hs hsc q H) (fun z => absurd z (by omega))
  · intro n k s hk q hw
    refine pk_le 36 k (fun z => absurd z (by omega)) (fun _ => ⟨pk_in k 36 hk, nm_r (by rw [nI_clamp (by omega)]) (nm_r (nI_1 k) (hw _ (fun k' hk' => ?_)))⟩)
    by_cases e : k' = k
    · rw [e, pk_us]
    · rw [pk_un e]
      exact q k' (by omega)
end
end
section
/-- the arrays hold the carriers and their inverses -/
def ch_rep (a2 a3 : Nat → Int32) : Prop := ∀ i, i < 6 → ∀ y, y < 6 → ch_K a2 i y → a2 (i * 6 + y) = nI (ch_T a2 i y) ∧ a3 (i * 6 + y) = nI (pg_i (ch_T a2 i y)) ∧ pg_pm (ch_T a2 i y)
/-- a chain in the making -/
def ch_in (sc : Nat) (a2 a3 a4 a5 : Nat → Int32) : Prop := ch_st sc a4 a5 ∧ ch_fc sc a2 a3 a4 a5 ∧ sc ≤ cn_nb (fun k => ¬ a2 k = (-4)) 36
theorem ch_in_36 {sc : Nat} {a2 a3 a4 a5 : Nat → Int32} (h : ch_in sc a2 a3 a4 a5) : sc ≤ 36 := Nat.le_trans h.2.2 (cn_nb_le _ _)
theorem ch_fc_rep {sc : Nat} {a2 a3 a4 a5 : Nat → Int32} (h : ch_fc sc a2 a3 a4 a5) : ch_rep a2 a3 := by
  intro i hi y hy k
  obtain ⟨r1, r2, r3, _, _⟩ := (h i hi).1.2 y hy k
  exact ⟨r1, r2, r3⟩
/-- one more strong generator -/
theorem ch_S_add {sc : Nat} {a4 a5 : Nat → Int32} {r j : Nat} (hr : r < 2 ^ 31) (hj : j < 2 ^ 31) (i s : Nat) : ch_S (sc + 1) (upd a4 sc (nI r)) (upd a5 sc (nI j)) i s ↔ ch_S sc a4 a5 i s ∨ (i ≤ j ∧ s = r) := by
  have n4 : ch_c (upd a4 sc (nI r)) sc = r := ch_c_nI pk_us hr
  have n5 : ch_c (upd a5 sc (nI j)) sc = j := ch_c_nI pk_us hj
  have o4 : ∀ k, k < sc → ch_c (upd a4 sc (nI r)) k = ch_c a4 k := fun k hk => by unfold ch_c; rw [pk_un (by omega)]
  have o5 : ∀ k, k < sc → ch_c (upd a5 sc (nI j)) k = ch_c a5 k := fun k hk => by unfold ch_c; rw [pk_un (by omega)]
  constructor
  · rintro ⟨k, hk, hl, e⟩
    by_cases ek : k = sc
    · subst ek
      rw [n5] at hl
      rw [n4] at e
      exact Or.inr ⟨hl, e⟩
    · rw [o5 k (by omega)] at hl
      rw [o4 k (by omega)] at e
      exact Or.inl ⟨k, by omega, hl, e⟩
  · rintro (⟨k, hk, hl, e⟩ | ⟨hl, e⟩)
    · exact ⟨k, by omega, by rw [o5 k hk]; exact hl, by rw [o4 k hk]; exact e⟩
    · exact ⟨sc, by omega, by rw [n5]; exact hl, by rw [n4]; exact e⟩
theorem ch_st_add {sc : Nat} {a4 a5 : Nat → Int32} {r j : Nat} (h : ch_st sc a4 a5) (hr : pg_pm r) (hj : j < 6) (hf : ∀ x, x < j → pg_d r x = x) : ch_st (sc + 1) (upd a4 sc (nI r)) (upd a5 sc (nI j)) := by
  intro k hk
  by_cases ek : k = sc
  · subst ek
    have n4 : ch_c (upd a4 k (nI r)) k = r := ch_c_nI pk_us (by have := hr.1; omega)
    have n5 : ch_c (upd a5 k (nI j)) k = j := ch_c_nI pk_us (by omega)
    rw [n4, n5, pk_us, pk_us]
    exact ⟨rfl, rfl, hr, hj, hf⟩
  · have o4 : ch_c (upd a4 sc (nI r)) k = ch_c a4 k := by unfold ch_c; rw [pk_un ek]
    have o5 : ch_c (upd a5 sc (nI j)) k = ch_c a5 k := by unfold ch_c; rw [pk_un ek]
    rw [o4, o5, pk_un ek, pk_un ek]
    exact h k (by omega)
/-- a new generator makes a row longer -/
theorem ch_grow {sc : Nat} {a2 a3 a4 a5 b2 b3 : Nat → Int32} {r j : Nat} (h : ch_in sc a2 a3 a4 a5) (hr : pg_pm r) (hj : j < 6) (hf : ∀ x, x < j → pg_d r x = x) (hk : ¬ ch_K a2 j (pg_d r j))
    (hb : ch_fc (sc + 1) b2 b3 (upd a4 sc (nI r)) (upd a5 sc (nI j))) : ch_in (sc + 1) b2 b3 (upd a4 sc (nI r)) (upd a5 sc (nI j)) := by
  obtain ⟨h1, h2, h3⟩ := h
  have st := ch_st_add h1 hr hj hf
  have rl : r < 2 ^ 31 := by have := hr.1; omega
  refine ⟨st, hb, ?_⟩
  have lt : cn_nb (fun k => ¬ a2 k = (-4)) 36 < cn_nb (fun k => ¬ b2 k = (-4)) 36 := by
    refine cn_nb_lt 36 (fun k hk36 ka => ?_) (z := j * 6 + pg_d r j) (by have := pg_d_lt hr hj; omega) hk ?_
    · have ek : k / 6 * 6 + k % 6 = k := by omega
      have hi : k / 6 < 6 := by omega
      have ka' : ch_K a2 (k / 6) (k % 6) := by
        unfold ch_K
        rw [ek]
        exact ka
      obtain ⟨_, _, _, r4, r5⟩ := (h2 (k / 6) hi).1.2 (k % 6) (by omega) ka'
      have g : gp_gen (ch_S (sc + 1) (upd a4 sc (nI r)) (upd a5 sc (nI j)) (k / 6)) (ch_T a2 (k / 6) (k % 6)) :=
        gp_sub (ch_S_pm st _) (fun s hs => gp_in (ch_S_pm st _) ((ch_S_add rl (by omega) _ s).mpr (Or.inl hs))) r5
      have w := ch_reach (ch_S_pm st _) hi (hb (k / 6) hi).1.1.1 (hb (k / 6) hi).2 g
      rw [r4] at w
      unfold ch_K at w
      rw [ek] at w
      exact w
    · exact (hb j hj).2 j hj (hb j hj).1.1.1 r ((ch_S_add rl (by omega) j r).mpr (Or.inr ⟨Nat.le_refl j, rfl⟩))
  omega
section
variable {c0 b0 s0 w0 o0 e0 : Int32} {a1 a2 a3 a4 a5 a6 a7 : Nat → Int32}
theorem wk_sift0 {post : Int32 → Prop} (hr : ch_rep a2 a3) : ∀ (m g : Nat), m ≤ 6 → pg_pm g → post (nI (ch_sf a2 m g)) → wX_sift_4 post c0 b0 s0 w0 o0 e0 a1 a2 a3 a4 a5 a6 a7 (m + 1) (nI g) (nI (6 - m)) := by
  intro m
  induction m with
  | zero =>
    intro g _ _ H
    exact pk_le 6 6 (fun _ => H) (fun z => absurd z (by omega))
  | succ m ih =>
    intro g hm hg H
    have hi : 6 - (m + 1) < 6 := by omega
    have e5 : 6 - (m + 1) = 5 - m := by omega
    have hy := pg_d_lt hg hi
    unfold ch_sf at H
    rw [← e5] at H
    refine pk_le 6 (6 - (m + 1)) (fun z => absurd z (by omega)) (fun _ => wk_digit (by have := hg.1; omega) (by omega) ⟨wk_in hi hy, ?_⟩)
    rw [wk_ix hi hy]
    refine nm_e (br_c (fun z => ?_) (fun z => ⟨wk_in hi hy, ?_⟩))
    · rw [if_pos z] at H
      exact H
    · rw [if_neg z] at H
      obtain ⟨_, r2, r3⟩ := hr _ hi _ hy z
      rw [r2]
      refine wk_times hg.1 (pg_i_pm r3).1 (nm_r ?_ (ih _ (by omega) (pg_m_pm hg (pg_i_pm r3)) H))
      rw [nI_1]
      congr 1
      omega
theorem wk_sift {post : Int32 → Prop} {g : Nat} (hr : ch_rep a2 a3) (hg : pg_pm g) (h : post (nI (ch_sf a2 6 g))) : wpX_sift post (c0, b0, s0, w0, o0, e0, a1, a2, a3, a4, a5, a6, a7) (nI g) :=
  ⟨7, wk_sift0 hr 6 g (by omega) hg h⟩
end
section
variable {c0 b0 w0 o0 e0 : Int32} {a1 a2 a3 a4 a5 a6 a7 : Nat → Int32} {sc : Nat}
theorem wk_learn {post : Int32 → St1 → Prop} {g : Nat} (hI : ch_in sc a2 a3 a4 a5) (hg : pg_pm g)
    (H0 : ch_sf a2 6 g = 181896 → post 0 (c0, b0, nI sc, w0, o0, e0, a1, a2, a3, a4, a5, a6, a7))
    (H1 : ∀ b2 b3 b4 b5, ch_in (sc + 1) b2 b3 b4 b5 → (∀ s, ch_S sc a4 a5 0 s → ch_S (sc + 1) b4 b5 0 s) → gp_gen (ch_S (sc + 1) b4 b5 0) g → (∀ s, ch_S (sc + 1) b4 b5 0 s → ch_S sc a4 a5 0 s ∨ ∃ u, gp_gen (ch_S sc a4 a5 0) u ∧ s = pg_m g (pg_i u)) → post 1 (c0, b0, nI (sc + 1), w0, o0, e0, a1, b2, b3, b4, b5, a6, a7)) :
    wpX_learn post (c0, b0, nI sc, w0, o0, e0, a1, a2, a3, a4, a5, a6, a7) (nI g) := by
  have s36 := ch_in_36 hI
  obtain ⟨h1, h2, h3⟩ := hI
  obtain ⟨p1, ⟨u, hu, p2⟩, p3⟩ := ch_sf_spec h1 (fun i hi => (h2 i hi).1) 6 0 g (by omega) hg (fun x hx => absurd hx (by omega))
  unfold wpX_learn
  refine wk_sift (ch_fc_rep h2) hg (pk_eq (ch_sf a2 6 g) 181896 (fun z => H0 z) (fun z => ?_) rfl rfl (by have := p1.1; omega) (by decide))
  obtain ⟨j, _, hj, hf, hk⟩ := p3.resolve_left z
  revert p1 p2 hf hk
  generalize ch_sf a2 6 g = r
  intro p1 p2 hf hk
  have rl : r < 2 ^ 31 := by have := p1.1; omega
  have mv : pg_d r j ≠ j := fun e => hk (by rw [e]; exact (h2 j hj).1.1.1)
  have st := ch_st_add h1 p1 hj hf
  refine ⟨pk_in sc 40 (by omega), nm_r (by rw [nI_clamp (by omega)]) (wk_firstMoved p1.1 hj hf mv ⟨pk_in sc 40 (by omega), nm_r (by rw [nI_clamp (by omega)]) (nm_r (nI_1 sc) (wk_findCarriers st (by omega) (fun b2 b3 hb => ?_)))⟩)⟩
  refine H1 b2 b3 _ _ (ch_grow ⟨h1, h2, h3⟩ p1 hj hf hk hb) (fun s hs => (ch_S_add rl (by omega) 0 s).mpr (Or.inl hs)) ?_ (fun s hs => ?_)
  · have SP := ch_S_pm st 0
    rw [p2]
    refine gp_mul SP (gp_in SP ((ch_S_add rl (by omega) 0 r).mpr (Or.inr ⟨Nat.zero_le j, rfl⟩))) ?_
    exact gp_sub SP (fun s hs => gp_in SP ((ch_S_add rl (by omega) 0 s).mpr (Or.inl hs))) hu
  · rcases (ch_S_add rl (by omega) 0 s).mp hs with w | ⟨_, w⟩
    · exact Or.inl w
    · refine Or.inr ⟨u, hu, ?_⟩
      rw [w, p2, pg_can p1 (gp_pm (ch_S_pm h1 0) hu)]
/-- the new generators are of the same group -/
def ch_gr (sc : Nat) (a4 a5 b4 b5 : Nat → Int32) : Prop := (∀ s, ch_S sc a4 a5 0 s → ch_S (sc + 1) b4 b5 0 s) ∧ (∀ s, ch_S (sc + 1) b4 b5 0 s → gp_gen (ch_S sc a4 a5 0) s)
theorem wk_closedAt {post : Int32 → St1 → Prop} {i y : Nat} (hI : ch_in sc a2 a3 a4 a5) (hi : i < 6) (hy : y < 6) (ky : ch_K a2 i y)
    (H1 : (∀ s, ch_S sc a4 a5 i s → ch_sf a2 6 (pg_m (pg_m (ch_T a2 i y) s) (pg_i (ch_T a2 i (pg_d s y)))) = 181896) → post 1 (c0, b0, nI sc, w0, o0, e0, a1, a2, a3, a4, a5, a6, a7))
    (H0 : ∀ b2 b3 b4 b5, ch_in (sc + 1) b2 b3 b4 b5 → ch_gr sc a4 a5 b4 b5 → post 0 (c0, b0, nI (sc + 1), w0, o0, e0, a1, b2, b3, b4, b5, a6, a7)) :
    wpX_closedAt post (c0, b0, nI sc, w0, o0, e0, a1, a2, a3, a4, a5, a6, a7) (nI i) (nI y) := by
  have s36 := ch_in_36 hI
  have hI' := hI
  obtain ⟨h1, h2, h3⟩ := hI'
  have SP := ch_S_pm h1 0
  show ∃ n, wX_closedAt_2 post (nI i) (nI y) n 0 c0 b0 (nI sc) w0 o0 e0 a1 a2 a3 a4 a5 a6 a7
  refine pk_loop (σ := Unit) (fun n k _ => wX_closedAt_2 post (nI i) (nI y) n (nI k) c0 b0 (nI sc) w0 o0 e0 a1 a2 a3 a4 a5 a6 a7)
    (fun k _ => ∀ k', k' < k → i ≤ ch_c a5 k' → ch_sf a2 6 (pg_m (pg_m (ch_T a2 i y) (ch_c a4 k')) (pg_i (ch_T a2 i (pg_d (ch_c a4 k') y)))) = 181896) sc 0 () (by omega) (fun k' hk' => absurd hk' (by omega)) ?_ ?_
  · intro n _ q
    refine pk_le sc sc (fun _ => H1 (fun s hs => ?_)) (fun z => absurd z (by omega))
    obtain ⟨k, hk, hl, rfl⟩ := hs
    exact q k hk hl
  · intro n k _ hk q hw
    obtain ⟨e4, e5, ps, l6, _⟩ := h1 k hk
    refine pk_le sc k (fun z => absurd z (by omega)) (fun _ => ⟨pk_in k 40 (by omega), ?_⟩)
    rw [nI_clamp (show k < 2 ^ 31 by omega), wk_ix hi hy]
    refine pk_lt (ch_c a5 k) i (fun hlt => nm_r (nI_1 k) (hw () (fun k' hk' hl => ?_))) (fun hle => ⟨pk_in k 40 (by omega), ?_⟩) e5
    · by_cases e : k' = k
      · rw [e] at hl; omega
      · exact q k' (by omega) hl
    · have hS : ch_S sc a4 a5 i (ch_c a4 k) := ⟨k, hk, hle, rfl⟩
      have hS0 : ch_S sc a4 a5 0 (ch_c a4 k) := ch_S_le (Nat.zero_le i) hS
      have hz := pg_d_lt ps hy
      have kz := (h2 i hi).2 y hy ky _ hS
      obtain ⟨r1, _, r3, _, r5⟩ := (h2 i hi).1.2 y hy ky
      obtain ⟨_, q2, q3, _, q5⟩ := (h2 i hi).1.2 _ hz kz
      rw [e4, r1]
      refine wk_digit (by have := ps.1; omega) (by omega) ⟨wk_in hi hy, pk_in k 40 (by omega), wk_times r3.1 ps.1 ⟨wk_in hi hz, ?_⟩⟩
      rw [wk_ix hi hz, q2]
      have gg : gp_gen (ch_S sc a4 a5 0) (pg_m (pg_m (ch_T a2 i y) (ch_c a4 k)) (pg_i (ch_T a2 i (pg_d (ch_c a4 k) y)))) :=
        gp_mul SP (gp_mul SP (ch_g_le h1 (Nat.zero_le i) r5) (gp_in SP hS0)) (gp_inv SP (ch_g_le h1 (Nat.zero_le i) q5))
      refine wk_times (pg_m_lt _ _) (pg_i_pm q3).1 (wk_learn hI (gp_pm SP gg) (fun z => br_t rfl (nm_r (nI_1 k) (hw () (fun k' hk' hl => ?_)))) (fun b2 b3 b4 b5 t1 t2 t3 t4 => br_f (by decide) (H0 b2 b3 b4 b5 t1 ⟨t2, fun s hs => ?_⟩)))
      · by_cases e : k' = k
        · rw [e]; exact z
        · exact q k' (by omega) hl
      · rcases t4 s hs with w | ⟨u, hu, e⟩
        · exact gp_in SP w
        · rw [e]
          exact gp_mul SP gg (gp_inv SP hu)
theorem wk_closed {post : Int32 → St1 → Prop} (hI : ch_in sc a2 a3 a4 a5)
    (H1 : ch_cs sc a2 a4 a5 → post 1 (c0, b0, nI sc, w0, o0, e0, a1, a2, a3, a4, a5, a6, a7))
    (H0 : ∀ b2 b3 b4 b5, ch_in (sc + 1) b2 b3 b4 b5 → ch_gr sc a4 a5 b4 b5 → post 0 (c0, b0, nI (sc + 1), w0, o0, e0, a1, b2, b3, b4, b5, a6, a7)) :
    wpX_closed post (c0, b0, nI sc, w0, o0, e0, a1, a2, a3, a4, a5, a6, a7) := by
  show ∃ n, wX_closed_2 post n 0 c0 b0 (nI sc) w0 o0 e0 a1 a2 a3 a4 a5 a6 a7
  refine pk_loop (σ := Unit) (fun n i _ => wX_closed_2 post n (nI i) c0 b0 (nI sc) w0 o0 e0 a1 a2 a3 a4 a5 a6 a7)
    (fun i _ => ∀ i', i' < i → ∀ y, y < 6 → ch_K a2 i' y → ∀ s, ch_S sc a4 a5 i' s → ch_sf a2 6 (pg_m (pg_m (ch_T a2 i' y) s) (pg_i (ch_T a2 i' (pg_d s y)))) = 181896) 6 0 () (by omega) (fun i' hi' => absurd hi' (by omega)) ?_ ?_
  · intro n _ q
    exact pk_le 6 6 (fun _ => H1 q) (fun z => absurd z (by omega))
  · intro n i _ hi q hw
    refine pk_le 6 i (fun z => absurd z (by omega)) (fun _ => ?_)
    refine pk_loop (σ := Unit) (fun m y _ => wX_closed_10 post (wX_closed_2 post n) (nI i) m (nI y) c0 b0 (nI sc) w0 o0 e0 a1 a2 a3 a4 a5 a6 a7)
      (fun y _ => ∀ y', y' < y → ch_K a2 i y' → ∀ s, ch_S sc a4 a5 i s → ch_sf a2 6 (pg_m (pg_m (ch_T a2 i y') s) (pg_i (ch_T a2 i (pg_d s y')))) = 181896) 6 0 () (by omega) (fun y' hy' => absurd hy' (by omega)) ?_ ?_
    · intro m _ p
      refine pk_le 6 6 (fun _ => nm_r (nI_1 i) (hw () (fun i' hi' y hy k s hs => ?_))) (fun z => absurd z (by omega))
      by_cases e : i' = i
      · rw [e] at k hs ⊢
        exact p y hy k s hs
      · exact q i' (by omega) y hy k s hs
    · intro m y _ hy p hv
      refine pk_le 6 y (fun z => absurd z (by omega)) (fun _ => ⟨wk_in hi hy, ?_⟩)
      rw [wk_ix hi hy]
      refine br_c (fun z => nm_r (nI_1 y) (hv () (fun y' hy' k s hs => ?_))) (fun ky => wk_closedAt hI hi hy ky (fun z => br_f (by decide) (nm_r (nI_1 y) (hv () (fun y' hy' k s hs => ?_)))) (fun b2 b3 b4 b5 t1 t2 => br_t rfl (H0 b2 b3 b4 b5 t1 t2)))
      · by_cases e : y' = y
        · rw [e] at k; exact absurd z k
        · exact p y' (by omega) k s hs
      · by_cases e : y' = y
        · rw [e]; exact z s hs
        · exact p y' (by omega) k s hs
end
/-- the generators -/
def gn_S (c : Nat) (a1 : Nat → Int32) (s : Nat) : Prop := ∃ k, k < c ∧ s = ch_c a1 k
def gn_ok (c : Nat) (a1 : Nat → Int32) : Prop := c ≤ 5 ∧ ∀ k, k < c → a1 k = nI (ch_c a1 k) ∧ pg_pm (ch_c a1 k)
theorem gn_pm {c : Nat} {a1 : Nat → Int32} (h : gn_ok c a1) : ∀ s, gn_S c a1 s → pg_pm s := by
  rintro s ⟨k, hk, rfl⟩
  exact (h.2 k hk).2
/-- the chain stands -/
def ch_on (c : Nat) (a1 a2 a3 : Nat → Int32) : Prop := ch_rep a2 a3 ∧ ch_ok (gp_gen (gn_S c a1)) (ch_K a2) (ch_T a2)
section
variable {b0 w0 o0 e0 : Int32} {a1 a6 a7 : Nat → Int32} {c : Nat}
theorem wk_build48 {post : St1 → Prop} (hc : gn_ok c a1) (H : ∀ (s0 : Int32) b2 b3 b4 b5, ch_on c a1 b2 b3 → post (nI c, 1, s0, w0, o0, e0, a1, b2, b3, b4, b5, a6, a7)) :
    ∀ (f r sc : Nat) (a2 a3 a4 a5 : Nat → Int32), r + f = 40 → r ≤ sc → ch_in sc a2 a3 a4 a5 → (∀ s, ch_S sc a4 a5 0 s → gp_gen (gn_S c a1) s) → (∀ s, gn_S c a1 s → gp_gen (ch_S sc a4 a5 0) s) →
    wX_build_48 post (f + 1) 0 (nI r) (nI c) b0 (nI sc) w0 o0 e0 a1 a2 a3 a4 a5 a6 a7 := by
  intro f
  induction f with
  | zero =>
    intro r sc a2 a3 a4 a5 h1 h2 hI _ _
    have := ch_in_36 hI
    omega
  | succ f ih =>
    intro r sc a2 a3 a4 a5 h1 h2 hI g1 g2
    have SP := ch_S_pm hI.1 0
    have GP := gn_pm hc
    refine pk_le 40 r (fun z => absurd z (by omega)) (fun _ => br_t rfl (wk_closed hI (fun hcs => nm_r (nI_1 r) ?_) (fun b2 b3 b4 b5 t1 t2 => nm_r (nI_1 r) (ih (r + 1) (sc + 1) b2 b3 b4 b5 (by omega) (by omega) t1 (fun s hs => ?_) (fun s hs => ?_)))))
    · have on : ch_on c a1 a2 a3 := ⟨ch_fc_rep hI.2.1, ch_done hI.1 hI.2.1 hcs (fun u => ⟨fun hu => gp_sub SP g2 hu, fun hu => gp_sub GP g1 hu⟩)⟩
      exact br_c (fun _ => H _ _ _ _ _ on) (fun _ => br_f (by decide) (H _ _ _ _ _ on))
    · exact gp_sub GP g1 (t2.2 s hs)
    · exact gp_sub (ch_S_pm t1.1 0) (fun t ht => gp_in (ch_S_pm t1.1 0) (t2.1 t ht)) (g2 s hs)
theorem wk_build19 {post : St1 → Prop} (hc : gn_ok c a1) (H : ∀ (s0 : Int32) b2 b3 b4 b5, ch_on c a1 b2 b3 → post (nI c, 1, s0, w0, o0, e0, a1, b2, b3, b4, b5, a6, a7)) :
    ∀ (f k sc : Nat) (a2 a3 a4 a5 : Nat → Int32), k + f = c → ch_in sc a2 a3 a4 a5 → (∀ s, ch_S sc a4 a5 0 s → gp_gen (gn_S c a1) s) → (∀ j, j < k → gp_gen (ch_S sc a4 a5 0) (ch_c a1 j)) →
    wX_build_19 post (f + 1) (nI k) (nI c) b0 (nI sc) w0 o0 e0 a1 a2 a3 a4 a5 a6 a7 := by
  have c5 := hc.1
  have GP := gn_pm hc
  intro f
  induction f with
  | zero =>
    intro k sc a2 a3 a4 a5 h1 hI g1 g2
    refine pk_le c k (fun _ => ⟨41, wk_build48 hc H 40 0 sc a2 a3 a4 a5 (by omega) (by omega) hI g1 (fun s hs => ?_)⟩) (fun z => absurd z (by omega))
    obtain ⟨j, hj, rfl⟩ := hs
    exact g2 j (by omega)
  | succ f ih =>
    intro k sc a2 a3 a4 a5 h1 hI g1 g2
    have SP := ch_S_pm hI.1 0
    obtain ⟨e1, pg⟩ := hc.2 k (by omega)
    refine pk_le c k (fun z => absurd z (by omega)) (fun _ => ⟨pk_in k 5 (by omega), ?_⟩)
    rw [nI_clamp (show k < 2 ^ 31 by omega), e1]
    refine wk_learn hI pg (fun z => nm_r (nI_1 k) (ih (k + 1) sc a2 a3 a4 a5 (by omega) hI g1 (fun j hj => ?_))) (fun b2 b3 b4 b5 t1 t2 t3 t4 => nm_r (nI_1 k) (ih (k + 1) (sc + 1) b2 b3 b4 b5 (by omega) t1 (fun s hs => ?_) (fun j hj => ?_)))
    · by_cases e : j = k
      · rw [e]
        exact ch_sf_gen hI.1 (fun i hi => (hI.2.1 i hi).1) (i := 0) (by omega) pg (fun x hx => absurd hx (by omega)) z
      · exact g2 j (by omega)
    · rcases t4 s hs with w | ⟨u, hu, e⟩
      · exact g1 s w
      · rw [e]
        exact gp_mul GP (gp_in GP ⟨k, by omega, rfl⟩) (gp_inv GP (gp_sub GP g1 hu))
    · by_cases e : j = k
      · rw [e]; exact t3
      · exact gp_sub (ch_S_pm t1.1 0) (fun t ht => gp_in (ch_S_pm t1.1 0) (t2 t ht)) (g2 j (by omega))
theorem wk_build {post : St1 → Prop} {s0 : Int32} {a2 a3 a4 a5 : Nat → Int32} (hc : gn_ok c a1) (hb : b0 = 0 ∨ (b0 = 1 ∧ ch_on c a1 a2 a3))
    (H : ∀ (s0 : Int32) b2 b3 b4 b5, ch_on c a1 b2 b3 → post (nI c, 1, s0, w0, o0, e0, a1, b2, b3, b4, b5, a6, a7)) :
    wpX_build post (nI c, b0, s0, w0, o0, e0, a1, a2, a3, a4, a5, a6, a7) := by
  unfold wpX_build
  refine br_c (fun z => ?_) (fun z => ?_)
  · have st0 : ch_st 0 a4 a5 := fun k hk => absurd hk (by omega)
    refine wk_findCarriers (sc := 0) st0 (by omega) (fun b2 b3 hf => ⟨c + 1, wk_build19 hc H c 0 0 b2 b3 a4 a5 (by omega) ⟨st0, hf, Nat.zero_le _⟩ (fun s hs => ?_) (fun j hj => absurd hj (by omega))⟩)
    obtain ⟨k, hk, _⟩ := hs
    exact absurd hk (by omega)
  · obtain ⟨e, on⟩ := hb.resolve_left z
    rw [e]
    exact H _ _ _ _ _ on
end
end
section
theorem cn_sm_add (f f' : Nat → Nat) (n : Nat) : cn_sm (fun y => f y + f' y) n = cn_sm f n + cn_sm f' n := by
  induction n with
  | zero => rfl
  | succ n ih =>
    show cn_sm (fun y => f y + f' y) n + (f n + f' n) = (cn_sm f n + f n) + (cn_sm f' n + f' n)
    omega
theorem cn_sm_cat (f : Nat → Nat) (a b : Nat) : cn_sm f (a + b) = cn_sm f a + cn_sm (fun r => f (a + r)) b := by
  induction b with
  | zero => rfl
  | succ b ih =>
    show cn_sm f (a + b) + f (a + b) = cn_sm f a + (cn_sm (fun r => f (a + r)) b + f (a + b))
    omega
theorem cn_sm_0 (n : Nat) : cn_sm (fun _ => 0) n = 0 := by
  induction n with
  | zero => rfl
  | succ n ih => exact ih
/-- a sum by the digits -/
theorem cn_sm_dm (f : Nat → Nat → Nat) {s : Nat} (hs : 0 < s) (N : Nat) : cn_sm (fun n => f (n % s) (n / s)) (s * N) = cn_sm (fun r => cn_sm (f r) N) s := by
  induction N with
  | zero => exact (cn_sm_0 s).symm
  | succ N ih =>
    rw [Nat.mul_succ, cn_sm_cat, ih]
    show _ = cn_sm (fun r => cn_sm (f r) N + f r N) s
    rw [cn_sm_add]
    congr 1
    refine cn_smc s (fun r hr => ?_)
    rw [Nat.mul_add_mod, Nat.mod_eq_of_lt hr, Nat.mul_add_div hs, Nat.div_eq_of_lt hr, Nat.add_zero]
theorem cn_nb_inj {Q : Nat → Prop} {y z : Nat} (hy : Q y) (hz : Q z) (e : cn_nb Q y = cn_nb Q z) : y = z := by
  have lt : ∀ a b, Q a → a < b → cn_nb Q a < cn_nb Q b := by
    intro a b ha hab
    induction b with
    | zero => omega
    | succ b ih =>
      have m : cn_nb Q b ≤ cn_nb Q (b + 1) := by
        by_cases h : Q b
        · rw [cn_nbt h]; omega
        · rw [cn_nbf h]; omega
      by_cases e : a = b
      · rw [← e, cn_nbt ha]; omega
      · have := ih (by omega); omega
  rcases Nat.lt_trichotomy y z with h | h | h
  · have := lt y z hy h; omega
  · exact h
  · have := lt z y hz h; omega
theorem cn_nb_ex {Q : Nat → Prop} {r : Nat} : ∀ n, r < cn_nb Q n → ∃ y, y < n ∧ Q y ∧ cn_nb Q y = r := by
  intro n
  induction n with
  | zero => intro h; exact absurd h (Nat.not_lt_zero _)
  | succ n ih =>
    intro h
    by_cases q : Q n
    · rw [cn_nbt q] at h
      by_cases e : r = cn_nb Q n
      · exact ⟨n, by omega, q, e.symm⟩
      · obtain ⟨y, h1, h2⟩ := ih (by omega)
        exact ⟨y, by omega, h2⟩
    · rw [cn_nbf q] at h
      obtain ⟨y, h1, h2⟩ := ih h
      exact ⟨y, by omega, h2⟩
/-- the r-th with Q -/
noncomputable def ch_sel (Q : Nat → Prop) (r : Nat) : Nat := Classical.epsilon (fun y => y < 6 ∧ Q y ∧ cn_nb Q y = r)
theorem ch_sel_s {Q : Nat → Prop} {r : Nat} (h : r < cn_nb Q 6) : ch_sel Q r < 6 ∧ Q (ch_sel Q r) ∧ cn_nb Q (ch_sel Q r) = r := Classical.epsilon_spec (cn_nb_ex 6 h)
theorem ch_sel_e {Q : Nat → Prop} {y : Nat} (hy : y < 6) (q : Q y) : ch_sel Q (cn_nb Q y) = y := by
  have t := Classical.epsilon_spec (p := fun z => z < 6 ∧ Q z ∧ cn_nb Q z = cn_nb Q y) ⟨y, hy, q, rfl⟩
  exact cn_nb_inj t.2.1 q t.2.2
theorem ch_sel_sum (Q : Nat → Prop) (F : Nat → Nat) : ∀ n, n ≤ 6 → cn_sm (fun r => F (ch_sel Q r)) (cn_nb Q n) = cn_sm (fun y => if cn_b Q y then F y else 0) n := by
  intro n
  induction n with
  | zero => intro _; rfl
  | succ n ih =>
    intro hn
    show _ = cn_sm (fun y => if cn_b Q y then F y else 0) n + (if cn_b Q n then F n else 0)
    by_cases q : Q n
    · rw [cn_nbt q, if_pos (cn_t q), ← ih (by omega)]
      show cn_sm (fun r => F (ch_sel Q r)) (cn_nb Q n) + F (ch_sel Q (cn_nb Q n)) = _
      rw [ch_sel_e (by omega) q]
    · rw [cn_nbf q, if_neg (fun z => q (cn_bt.mp z)), ← ih (by omega), Nat.add_zero]
/-- the n-th element -/
noncomputable def ch_el (a2 : Nat → Int32) : Nat → Nat → Nat → Nat
  | 0, g, _ => g
  | m + 1, g, n => ch_el a2 m (pg_m (ch_T a2 (5 - m) (ch_sel (ch_K a2 (5 - m)) (n % cn_nb (ch_K a2 (5 - m)) 6))) g) (n / cn_nb (ch_K a2 (5 - m)) 6)
section
variable {G : Nat → Prop} {a2 : Nat → Int32}
theorem ch_el_sum (hG : gp_sg G) (hc : ch_ok G (ch_K a2) (ch_T a2)) (P : Nat → Prop) : ∀ (m i h : Nat), m + i = 6 → pg_pm h → cn_nb (fun n => P (ch_el a2 m h n)) (cn_ct (gp_st G i)) = cn_ct (ch_C G P i h) := by
  intro m
  induction m with
  | zero =>
    intro i h hm hh
    obtain rfl : i = 6 := by omega
    have e : cn_ct (gp_st G 6) = 1 := by
      rw [← cn_one pg_id_pm]
      exact cn_congr (fun g _ => gp_st6 hG)
    rw [ch_C6 hG P hh, e, cn_nbS]
    show 0 + _ = _
    rw [Nat.zero_add]
    rfl
  | succ m ih =>
    intro i h hm hh
    have hi : i < 6 := by omega
    obtain rfl : i = 5 - m := by omega
    rw [ch_dec hG hc P hi hh, ch_ord hG hc hi]
    have s0 : 0 < cn_nb (ch_K a2 (5 - m)) 6 := cn_nb_pos hi (ch_K_i hG hc hi)
    have e := cn_sm_dm (fun r q => if cn_b P (ch_el a2 m (pg_m (ch_T a2 (5 - m) (ch_sel (ch_K a2 (5 - m)) r)) h) q) then 1 else 0) s0 (cn_ct (gp_st G (5 - m + 1)))
    refine Eq.trans e ?_
    rw [← ch_sel_sum (ch_K a2 (5 - m)) (fun y => cn_ct (ch_C G P (5 - m + 1) (pg_m (ch_T a2 (5 - m) y) h))) 6 (by omega)]
    refine cn_smc _ (fun r hr => ?_)
    obtain ⟨q1, q2, _⟩ := ch_sel_s hr
    have pt := hG.1 _ ((hc _ hi _ q1).2 q2).1.1
    exact ih (5 - m + 1) _ (by omega) (pg_m_pm pt hh)
theorem ch_el_in (hG : gp_sg G) (hc : ch_ok G (ch_K a2) (ch_T a2)) : ∀ (m i h n : Nat), m + i = 6 → pg_pm h → ∃ u, gp_st G i u ∧ ch_el a2 m h n = pg_m u h := by
  intro m
  induction m with
  | zero =>
    intro i h n hm hh
    obtain rfl : i = 6 := by omega
    exact ⟨181896, (gp_st6 hG).mpr rfl, (pg_1m hh).symm⟩
  | succ m ih =>
    intro i h n hm hh
    have hi : i < 6 := by omega
    obtain rfl : i = 5 - m := by omega
    have s0 : 0 < cn_nb (ch_K a2 (5 - m)) 6 := cn_nb_pos hi (ch_K_i hG hc hi)
    obtain ⟨q1, q2, _⟩ := ch_sel_s (Q := ch_K a2 (5 - m)) (Nat.mod_lt n s0)
    have gt := ((hc _ hi _ q1).2 q2).1
    have pt := hG.1 _ gt.1
    obtain ⟨u, hu, e⟩ := ih (5 - m + 1) (pg_m (ch_T a2 (5 - m) (ch_sel (ch_K a2 (5 - m)) (n % cn_nb (ch_K a2 (5 - m)) 6))) h) (n / cn_nb (ch_K a2 (5 - m)) 6) (by omega) (pg_m_pm pt hh)
    refine ⟨pg_m u (ch_T a2 (5 - m) (ch_sel (ch_K a2 (5 - m)) (n % cn_nb (ch_K a2 (5 - m)) 6))), (gp_st_sg hG (by omega)).2.2.1 _ _ (gp_stS.mp hu).1 gt, ?_⟩
    rw [pg_assoc (hG.1 _ hu.1)]
    exact e
/-- what sifts away is what the group holds -/
theorem ch_sf_iff (hG : gp_sg G) (hc : ch_ok G (ch_K a2) (ch_T a2)) : ∀ (m i g : Nat), m + i = 6 → pg_pm g → (∀ x, x < i → pg_d g x = x) → (ch_sf a2 m g = 181896 ↔ G g) := by
  intro m
  induction m with
  | zero =>
    intro i g hm hg hf
    have e : g = 181896 := pg_ext hg.1 (by decide) (fun x hx => by rw [hf x (by omega), pg_id_d x hx])
    rw [e]
    exact ⟨fun _ => hG.2.1, fun _ => rfl⟩
  | succ m ih =>
    intro i g hm hg hf
    have hi : i < 6 := by omega
    have em : m + 1 = 6 - i := by omega
    have hy := pg_d_lt hg hi
    by_cases k : ch_K a2 i (pg_d g i)
    · rw [em, ch_sf_k hi k, show 5 - i = m by omega]
      obtain ⟨t1, t2⟩ := (hc i hi _ hy).2 k
      have pt := hG.1 _ t1.1
      rw [ih (i + 1) _ (by omega) (pg_m_pm hg (pg_i_pm pt)) (fun x hx => ?_)]
      · constructor
        · intro z
          have w := hG.2.2.1 _ _ z t1.1
          rw [pg_can' hg pt] at w
          exact w
        · intro z
          exact hG.2.2.1 _ _ z (hG.2.2.2 _ t1.1)
      · rw [pg_m_d _ _ (by omega)]
        by_cases e : x = i
        · rw [e]
          exact pg_id_of pt hi t2
        · rw [hf x (by omega)]
          exact pg_id_of pt (by omega) (t1.2 x (by omega))
    · rw [em, ch_sf_n hi k]
      constructor
      · intro e
        rw [e, pg_id_d i hi] at k
        exact absurd (ch_K_i hG hc hi) k
      · intro z
        exact absurd (((hc i hi _ hy).1).mpr ⟨g, ⟨z, hf⟩, rfl⟩) k
end
theorem cn_nb_720 (P : Nat → Prop) : cn_nb (fun n => P (pg_n n)) 720 = cn_ct P := by
  have t : ∀ k, cn_nb (fun n => P (pg_n n)) k = ((List.range k).map pg_n).countP (cn_b P) := by
    intro k
    induction k with
    | zero => rfl
    | succ k ih =>
      rw [cn_nbS, ih, List.range_succ, List.map_append, List.countP_append]
      congr 1
      rw [List.map_cons, List.map_nil, List.countP_singleton]
      rfl
  exact t 720
section
variable {c0 b0 s0 w0 o0 e0 : Int32} {a1 a2 a3 a4 a5 a6 a7 : Nat → Int32}
theorem wk_orbitSize {post : Int32 → Prop} {i : Nat} (hi : i < 6) (h : post (nI (cn_nb (ch_K a2 i) 6))) : wpX_orbitSize post (c0, b0, s0, w0, o0, e0, a1, a2, a3, a4, a5, a6, a7) (nI i) := by
  show ∃ n, wX_orbitSize_4 post (nI i) c0 b0 s0 w0 o0 e0 a1 a2 a3 a4 a5 a6 a7 n 0 0
  refine pk_loop (σ := Unit) (fun n y _ => wX_orbitSize_4 post (nI i) c0 b0 s0 w0 o0 e0 a1 a2 a3 a4 a5 a6 a7 n (nI (cn_nb (ch_K a2 i) y)) (nI y)) (fun _ _ => True) 6 0 () (by omega) trivial ?_ ?_
  · intro n _ _
    exact pk_le 6 6 (fun _ => h) (fun z => absurd z (by omega))
  · intro n y _ hy _ hw
    have w := hw () trivial
    refine pk_le 6 y (fun z => absurd z (by omega)) (fun _ => ⟨wk_in hi hy, ?_⟩)
    rw [wk_ix hi hy]
    refine br_c (fun z => nm_r (nI_1 y) ?_) (fun z => nm_r (nI_1 _) (nm_r (nI_1 y) ?_))
    · rw [cn_nbf (Q := ch_K a2 i) (fun k => k z)] at w
      exact w
    · rw [cn_nbt (Q := ch_K a2 i) z] at w
      exact w
theorem wk_nthCarrier {post : Int32 → Prop} {i y : Nat} (hi : i < 6) (hy : y < 6) (k : ch_K a2 i y) (h : post (a2 (i * 6 + y))) : wpX_nthCarrier post (c0, b0, s0, w0, o0, e0, a1, a2, a3, a4, a5, a6, a7) (nI i) (nI (cn_nb (ch_K a2 i) y)) := by
  have mono : ∀ y', y' ≤ y → cn_nb (ch_K a2 i) y' ≤ cn_nb (ch_K a2 i) y := by
    intro y' h'
    obtain ⟨d, rfl⟩ := Nat.exists_eq_add_of_le h'
    clear hy k h h'
    induction d with
    | zero => exact Nat.le_refl _
    | succ d ih =>
      refine Nat.le_trans ih ?_
      show cn_nb (ch_K a2 i) (y' + d) ≤ cn_nb (ch_K a2 i) (y' + d + 1)
      by_cases q : ch_K a2 i (y' + d)
      · rw [cn_nbt q]; omega
      · rw [cn_nbf q]; omega
  have l6 := cn_nb_le (ch_K a2 i) y
  show ∃ n, wX_nthCarrier_5 post (nI i) c0 b0 s0 w0 o0 e0 a1 a2 a3 a4 a5 a6 a7 n (nI (cn_nb (ch_K a2 i) y)) 0
  refine pk_loop (σ := Unit) (fun n y' _ => wX_nthCarrier_5 post (nI i) c0 b0 s0 w0 o0 e0 a1 a2 a3 a4 a5 a6 a7 n (nI (cn_nb (ch_K a2 i) y - cn_nb (ch_K a2 i) y')) (nI y')) (fun _ _ => True) y 0 () (by omega) trivial ?_ ?_
  · intro n _ _
    refine pk_le 6 y (fun z => absurd z (by omega)) (fun _ => ⟨wk_in hi hy, ?_⟩)
    rw [wk_ix hi hy]
    refine br_f k (br_t ?_ ⟨wk_in hi hy, h⟩)
    rw [Nat.sub_self]
    rfl
  · intro n y' _ hy' _ hw
    have w := hw () trivial
    have m := mono (y' + 1) (by omega)
    refine pk_le 6 y' (fun z => absurd z (by omega)) (fun _ => ⟨wk_in hi (by omega), ?_⟩)
    rw [wk_ix hi (show y' < 6 by omega)]
    refine br_c (fun z => nm_r (nI_1 y') ?_) (fun z => ?_)
    · rw [cn_nbf (Q := ch_K a2 i) (fun k => k z)] at w
      exact w
    · rw [cn_nbt (Q := ch_K a2 i) z] at w m
      refine br_f (nI_ne0 (by omega) (by omega)) (nm_r (sb_m1 (by omega)) (nm_r (nI_1 y') ?_))
      rw [show cn_nb (ch_K a2 i) y - cn_nb (ch_K a2 i) y' - 1 = cn_nb (ch_K a2 i) y - (cn_nb (ch_K a2 i) y' + 1) by omega]
      exact w
theorem wk_el0 {post : Int32 → Prop} {G : Nat → Prop} (hG : gp_sg G) (hr : ch_rep a2 a3) (hc : ch_ok G (ch_K a2) (ch_T a2)) : ∀ (m g n : Nat), m ≤ 6 → pg_pm g → n < 2 ^ 31 → post (nI (ch_el a2 m g n)) → wX_element_8 post c0 b0 s0 w0 o0 e0 a1 a2 a3 a4 a5 a6 a7 (m + 1) (nI g) (nI n) (nI (6 - m)) := by
  intro m
  induction m with
  | zero =>
    intro g n _ _ _ H
    exact pk_le 6 6 (fun _ => H) (fun z => absurd z (by omega))
  | succ m ih =>
    intro g n hm hg hn H
    have hi : 6 - (m + 1) < 6 := by omega
    have e5 : 6 - (m + 1) = 5 - m := by omega
    unfold ch_el at H
    rw [← e5] at H
    have l6 := cn_nb_le (ch_K a2 (6 - (m + 1))) 6
    have sp : 0 < cn_nb (ch_K a2 (6 - (m + 1))) 6 := cn_nb_pos hi (ch_K_i hG hc hi)
    obtain ⟨q1, q2, q3⟩ := ch_sel_s (Q := ch_K a2 (6 - (m + 1))) (Nat.mod_lt n sp)
    obtain ⟨r1, _, r3⟩ := hr _ hi _ q1 q2
    refine pk_le 6 (6 - (m + 1)) (fun z => absurd z (by omega)) (fun _ => wk_orbitSize hi (br_f (nI_nle sp (by omega)) ⟨nI_ne0 sp (by omega), ?_⟩))
    unfold wX_element_36 wX_element_51
    refine br_f (nI_nle sp (by omega)) ⟨nI_ne0 sp (by omega), ?_⟩
    rw [pk_rem hn sp (by omega), pk_div hn sp (by omega)]
    have er : nI (n % cn_nb (ch_K a2 (6 - (m + 1))) 6) = nI (cn_nb (ch_K a2 (6 - (m + 1))) (ch_sel (ch_K a2 (6 - (m + 1))) (n % cn_nb (ch_K a2 (6 - (m + 1))) 6))) := by rw [q3]
    rw [er]
    refine wk_nthCarrier hi q1 q2 ?_
    rw [r1]
    refine wk_times r3.1 hg.1 (nm_r ?_ (ih _ _ (by omega) (pg_m_pm r3 hg) (Nat.lt_of_le_of_lt (Nat.div_le_self _ _) hn) H))
    rw [nI_1]
    congr 1
    omega
theorem wk_element {post : Int32 → Prop} {G : Nat → Prop} (hG : gp_sg G) (hr : ch_rep a2 a3) (hc : ch_ok G (ch_K a2) (ch_T a2)) {n : Nat} (hn : n < 2 ^ 31) (h : post (nI (ch_el a2 6 181896 n))) : wpX_element post (c0, b0, s0, w0, o0, e0, a1, a2, a3, a4, a5, a6, a7) (nI n) :=
  ⟨7, wk_el0 hG hr hc 6 181896 n (by omega) pg_id_pm hn h⟩
end
end
section
/-- the object with the generators a1 (c of them) -/
def ob_st (c : Nat) (a1 : Nat → Int32) (u : St1) : Prop :=
  ∃ (b0 s0 w0 o0 e0 : Int32) (a2 a3 a4 a5 a6 a7 : Nat → Int32), u = (nI c, b0, s0, w0, o0, e0, a1, a2, a3, a4, a5, a6, a7) ∧ (b0 = 0 ∨ (b0 = 1 ∧ ch_on c a1 a2 a3))
theorem gn_sg {c : Nat} {a1 : Nat → Int32} (h : gn_ok c a1) : gp_sg (gp_gen (gn_S c a1)) := gp_gen_sg (gn_pm h)
section
variable {b0 s0 w0 o0 e0 : Int32} {a1 a2 a3 a4 a5 a6 a7 : Nat → Int32} {c : Nat}
theorem ob_on (h : ch_on c a1 a2 a3) : ob_st c a1 (nI c, 1, s0, w0, o0, e0, a1, a2, a3, a4, a5, a6, a7) := ⟨1, s0, w0, o0, e0, a2, a3, a4, a5, a6, a7, rfl, Or.inr ⟨rfl, h⟩⟩
theorem wk_order {post : Int32 → St1 → Prop} (hc : gn_ok c a1) (hb : b0 = 0 ∨ (b0 = 1 ∧ ch_on c a1 a2 a3))
    (H : ∀ (s0 : Int32) b2 b3 b4 b5, ch_on c a1 b2 b3 → post (nI (cn_ct (gp_gen (gn_S c a1)))) (nI c, 1, s0, w0, o0, e0, a1, b2, b3, b4, b5, a6, a7)) :
    wpX_order post (nI c, b0, s0, w0, o0, e0, a1, a2, a3, a4, a5, a6, a7) := by
  unfold wpX_order
  have hG := gn_sg hc
  refine wk_build hc hb (fun s0 b2 b3 b4 b5 on => ?_)
  have Hp := H s0 b2 b3 b4 b5 on
  refine pk_loop (fun n i v => wX_order_8 post (nI c) 1 s0 w0 o0 e0 a1 b2 b3 b4 b5 a6 a7 n (nI v) (nI i)) (fun i v => v * cn_ct (gp_st (gp_gen (gn_S c a1)) i) = cn_ct (gp_gen (gn_S c a1))) 6 0 1 (by omega) ?_ ?_ ?_
  · rw [Nat.one_mul]
    exact cn_congr (fun g _ => gp_st0)
  · intro n v q
    have e : cn_ct (gp_st (gp_gen (gn_S c a1)) 6) = 1 := by
      rw [← cn_one pg_id_pm]
      exact cn_congr (fun g _ => gp_st6 hG)
    rw [e, Nat.mul_one] at q
    rw [q]
    exact pk_le 6 6 (fun _ => Hp) (fun z => absurd z (by omega))
  · intro n i v hi q hw
    refine pk_le 6 i (fun z => absurd z (by omega)) (fun _ => wk_orbitSize hi (nm_r (pk_mul _ _) (nm_r (nI_1 i) (hw _ ?_))))
    rw [Nat.mul_assoc, ← ch_ord hG on.2 hi]
    exact q
theorem wk_commutesWithAll {post : Int32 → Prop} {g : Nat} (hc : gn_ok c a1) (hg : pg_pm g) (H1 : (∀ s, gn_S c a1 s → pg_m g s = pg_m s g) → post 1) (H0 : ¬ (∀ s, gn_S c a1 s → pg_m g s = pg_m s g) → post 0) :
    wpX_commutesWithAll post (nI c, b0, s0, w0, o0, e0, a1, a2, a3, a4, a5, a6, a7) (nI g) := by
  have c5 := hc.1
  show ∃ n, wX_commutesWithAll_2 post (nI g) (nI c) b0 s0 w0 o0 e0 a1 a2 a3 a4 a5 a6 a7 n 0
  refine pk_loop (σ := Unit) (fun n k _ => wX_commutesWithAll_2 post (nI g) (nI c) b0 s0 w0 o0 e0 a1 a2 a3 a4 a5 a6 a7 n (nI k)) (fun k _ => ∀ j, j < k → pg_m g (ch_c a1 j) = pg_m (ch_c a1 j) g) c 0 () (by omega) (fun j hj => absurd hj (by omega)) ?_ ?_
  · intro n _ q
    refine pk_le c c (fun _ => H1 (fun s hs => ?_)) (fun z => absurd z (by omega))
    obtain ⟨k, hk, rfl⟩ := hs
    exact q k hk
  · intro n k _ hk q hw
    obtain ⟨e1, ps⟩ := hc.2 k hk
    refine pk_le c k (fun z => absurd z (by omega)) (fun _ => ⟨pk_in k 5 (by omega), ?_⟩)
    rw [nI_clamp (show k < 2 ^ 31 by omega), e1]
    refine wk_times hg.1 ps.1 ⟨pk_in k 5 (by omega), wk_times ps.1 hg.1 (pk_eq _ _ (fun z => nm_r (nI_1 k) (hw () (fun j hj => ?_))) (fun z => H0 (fun w => z (w _ ⟨k, hk, rfl⟩))) rfl rfl (by have := pg_m_lt g (ch_c a1 k); omega) (by have := pg_m_lt (ch_c a1 k) g; omega))⟩
    by_cases e : j = k
    · rw [e]; exact z
    · exact q j (by omega)
theorem wk_commutative {post : Int32 → Prop} (hc : gn_ok c a1) (H1 : (∀ s, gn_S c a1 s → ∀ t, gn_S c a1 t → pg_m s t = pg_m t s) → post 1) (H0 : ¬ (∀ s, gn_S c a1 s → ∀ t, gn_S c a1 t → pg_m s t = pg_m t s) → post 0) :
    wpX_commutative post (nI c, b0, s0, w0, o0, e0, a1, a2, a3, a4, a5, a6, a7) := by
  have c5 := hc.1
  show ∃ n, wX_commutative_2 post (nI c) b0 s0 w0 o0 e0 a1 a2 a3 a4 a5 a6 a7 n 0
  refine pk_loop (σ := Unit) (fun n k _ => wX_commutative_2 post (nI c) b0 s0 w0 o0 e0 a1 a2 a3 a4 a5 a6 a7 n (nI k)) (fun k _ => ∀ j, j < k → ∀ t, gn_S c a1 t → pg_m (ch_c a1 j) t = pg_m t (ch_c a1 j)) c 0 () (by omega) (fun j hj => absurd hj (by omega)) ?_ ?_
  · intro n _ q
    refine pk_le c c (fun _ => H1 (fun s hs => ?_)) (fun z => absurd z (by omega))
    obtain ⟨k, hk, rfl⟩ := hs
    exact q k hk
  · intro n k _ hk q hw
    obtain ⟨e1, ps⟩ := hc.2 k hk
    refine pk_le c k (fun z => absurd z (by omega)) (fun _ => ⟨pk_in k 5 (by omega), ?_⟩)
    rw [nI_clamp (show k < 2 ^ 31 by omega), e1]
    refine wk_commutesWithAll hc ps (fun z => br_f (by decide) (nm_r (nI_1 k) (hw () (fun j hj => ?_)))) (fun z => br_t rfl (H0 (fun w => z (w _ ⟨k, hk, rfl⟩))))
    by_cases e : j = k
    · rw [e]; exact z
    · exact q j (by omega)
theorem wk_centre {post : Int32 → St1 → Prop} (hc : gn_ok c a1) (hb : b0 = 0 ∨ (b0 = 1 ∧ ch_on c a1 a2 a3))
    (H : ∀ u, ob_st c a1 u → post (nI (cn_ct (gl_Z (gn_S c a1)))) u) :
    wpX_centre post (nI c, b0, s0, w0, o0, e0, a1, a2, a3, a4, a5, a6, a7) := by
  unfold wpX_centre
  have hG := gn_sg hc
  refine wk_order hc hb (fun s0 b2 b3 b4 b5 on => ?_)
  have Hp := H _ (ob_on (s0 := s0) (w0 := w0) (o0 := o0) (e0 := e0) (a4 := b4) (a5 := b5) (a6 := a6) (a7 := a7) on)
  have es : cn_nb (fun n => (fun g => ∀ s, gn_S c a1 s → pg_m g s = pg_m s g) (ch_el b2 6 181896 n)) (cn_ct (gp_gen (gn_S c a1))) = cn_ct (gl_Z (gn_S c a1)) := by
    have t := ch_el_sum hG on.2 (fun g => ∀ s, gn_S c a1 s → pg_m g s = pg_m s g) 6 0 181896 (by omega) pg_id_pm
    rw [ch_C0, cn_congr (P := gp_st (gp_gen (gn_S c a1)) 0) (fun g _ => gp_st0)] at t
    exact t
  have l7 := cn_720 (gp_gen (gn_S c a1))
  refine pk_loop (σ := Unit) (fun n k _ => wX_centre_9 post (nI (cn_ct (gp_gen (gn_S c a1)))) (nI c) 1 s0 w0 o0 e0 a1 b2 b3 b4 b5 a6 a7 n (nI (cn_nb (fun n => (fun g => ∀ s, gn_S c a1 s → pg_m g s = pg_m s g) (ch_el b2 6 181896 n)) k)) (nI k)) (fun _ _ => True) (cn_ct (gp_gen (gn_S c a1))) 0 () (by omega) trivial ?_ ?_
  · intro n _ _
    dsimp only
    rw [es]
    exact pk_le _ _ (fun _ => Hp) (fun z => absurd z (by omega)) rfl rfl (by omega) (by omega)
  · intro n k _ hk _ hw
    have w := hw () trivial
    dsimp only at w ⊢
    obtain ⟨u, hu, eu⟩ := ch_el_in hG on.2 6 0 181896 k (by omega) pg_id_pm
    have pe : pg_pm (ch_el b2 6 181896 k) := by
      rw [eu]
      exact pg_m_pm (hG.1 _ hu.1) pg_id_pm
    refine pk_le _ k (fun z => absurd z (by omega)) (fun _ => br_f (nI_ge (b := 720) (by omega) (by decide)) (wk_element hG on.1 on.2 (by omega) (wk_commutesWithAll hc pe (fun z => br_f (by decide) (nm_r (nI_1 _) (nm_r (nI_1 k) ?_))) (fun z => br_t rfl (nm_r (nI_1 k) ?_))))) rfl rfl (by omega) (by omega)
    · rw [cn_nbt (Q := fun n => ∀ s, gn_S c a1 s → pg_m (ch_el b2 6 181896 n) s = pg_m s (ch_el b2 6 181896 n)) z] at w
      exact w
    · rw [cn_nbf (Q := fun n => ∀ s, gn_S c a1 s → pg_m (ch_el b2 6 181896 n) s = pg_m s (ch_el b2 6 181896 n)) z] at w
      exact w
theorem ch_sf_on (hc : gn_ok c a1) (on : ch_on c a1 a2 a3) {g : Nat} (hg : pg_pm g) : ch_sf a2 6 g = 181896 ↔ gp_gen (gn_S c a1) g :=
  ch_sf_iff (gn_sg hc) on.2 6 0 g (by omega) hg (fun x hx => absurd hx (by omega))
theorem ch_sf_pm (on : ch_on c a1 a2 a3) : ∀ (m g : Nat), m ≤ 6 → pg_pm g → pg_pm (ch_sf a2 m g) := by
  intro m
  induction m with
  | zero => intro g _ hg; exact hg
  | succ m ih =>
    intro g hm hg
    unfold ch_sf
    by_cases z : a2 ((5 - m) * 6 + pg_d g (5 - m)) = (-4)
    · rw [if_pos z]; exact hg
    · rw [if_neg z]
      exact ih _ (by omega) (pg_m_pm hg (pg_i_pm (on.1 (5 - m) (by omega) _ (pg_d_lt hg (by omega)) z).2.2))
theorem wk_siftB {P : Int32 → Prop} {A B : Prop} {g : Nat} (hc : gn_ok c a1) (on : ch_on c a1 a2 a3) (hg : pg_pm g) (H1 : gp_gen (gn_S c a1) g → A) (H0 : ¬ gp_gen (gn_S c a1) g → B) (hP : ∀ r, ((r = 181896 → A) ∧ (¬ r = 181896 → B)) → P r) :
    wpX_sift P (nI c, b0, s0, w0, o0, e0, a1, a2, a3, a4, a5, a6, a7) (nI g) := by
  refine wk_sift on.1 hg (hP _ (pk_eq (ch_sf a2 6 g) 181896 (fun z => H1 ((ch_sf_on hc on hg).mp z)) (fun z => H0 (fun w => z ((ch_sf_on hc on hg).mpr w))) rfl rfl ?_ (by decide)))
  have := (ch_sf_pm on 6 g (by omega) hg).1
  omega
theorem wk_carriesGroup {post : Int32 → Prop} {h : Nat} (hc : gn_ok c a1) (on : ch_on c a1 a2 a3) (hh : pg_pm h) (H1 : gl_N (gn_S c a1) h → post 1) (H0 : ¬ gl_N (gn_S c a1) h → post 0) :
    wpX_carriesGroup post (nI c, b0, s0, w0, o0, e0, a1, a2, a3, a4, a5, a6, a7) (nI h) := by
  have c5 := hc.1
  show ∃ n, wX_carriesGroup_2 post (nI h) (nI c) b0 s0 w0 o0 e0 a1 a2 a3 a4 a5 a6 a7 n 0
  refine pk_loop (σ := Unit) (fun n k _ => wX_carriesGroup_2 post (nI h) (nI c) b0 s0 w0 o0 e0 a1 a2 a3 a4 a5 a6 a7 n (nI k)) (fun k _ => ∀ j, j < k → gp_gen (gn_S c a1) (gp_cj (ch_c a1 j) h)) c 0 () (by omega) (fun j hj => absurd hj (by omega)) ?_ ?_
  · intro n _ q
    refine pk_le c c (fun _ => H1 (fun s hs => ?_)) (fun z => absurd z (by omega))
    obtain ⟨k, hk, rfl⟩ := hs
    exact q k hk
  · intro n k _ hk q hw
    obtain ⟨e1, ps⟩ := hc.2 k hk
    refine pk_le c k (fun z => absurd z (by omega)) (fun _ => ⟨pk_in k 5 (by omega), ?_⟩)
    rw [nI_clamp (show k < 2 ^ 31 by omega), e1]
    refine wk_conjugated ps hh (wk_siftB hc on (gp_cj_pm ps hh) (fun z => nm_r (nI_1 k) (hw () (fun j hj => ?_))) (fun z => H0 (fun w => z (w _ ⟨k, hk, rfl⟩))) (fun r z => z))
    by_cases e : j = k
    · rw [e]; exact z
    · exact q j (by omega)
theorem wk_normaliser {post : Int32 → St1 → Prop} (hc : gn_ok c a1) (hb : b0 = 0 ∨ (b0 = 1 ∧ ch_on c a1 a2 a3))
    (H : ∀ u, ob_st c a1 u → post (nI (cn_ct (gl_N (gn_S c a1)))) u) :
    wpX_normaliser post (nI c, b0, s0, w0, o0, e0, a1, a2, a3, a4, a5, a6, a7) := by
  unfold wpX_normaliser
  refine wk_build hc hb (fun s0 b2 b3 b4 b5 on => ?_)
  have Hp := H _ (ob_on (s0 := s0) (w0 := w0) (o0 := o0) (e0 := e0) (a4 := b4) (a5 := b5) (a6 := a6) (a7 := a7) on)
  refine pk_loop (σ := Unit) (fun n k _ => wX_normaliser_8 post (nI c) 1 s0 w0 o0 e0 a1 b2 b3 b4 b5 a6 a7 n (nI (cn_nb (fun n => gl_N (gn_S c a1) (pg_n n)) k)) (nI k)) (fun _ _ => True) 720 0 () (by omega) trivial ?_ ?_
  · intro n _ _
    rw [cn_nb_720]
    exact pk_le 720 720 (fun _ => Hp) (fun z => absurd z (by omega))
  · intro n k _ hk _ hw
    have w := hw () trivial
    refine pk_le 720 k (fun z => absurd z (by omega)) (fun _ => wk_nthPermutation (by omega) (wk_carriesGroup hc on (pg_n_pm hk) (fun z => br_f (by decide) (nm_r (nI_1 _) (nm_r (nI_1 k) ?_))) (fun z => br_t rfl (nm_r (nI_1 k) ?_))))
    · rw [cn_nbt (Q := fun n => gl_N (gn_S c a1) (pg_n n)) z] at w
      exact w
    · rw [cn_nbf (Q := fun n => gl_N (gn_S c a1) (pg_n n)) z] at w
      exact w
theorem wk_carrier {post : Int32 → St1 → Prop} {x y : Nat} (hc : gn_ok c a1) (hb : b0 = 0 ∨ (b0 = 1 ∧ ch_on c a1 a2 a3)) (hx : x < 6) (hy : y < 6)
    (H : ∀ r u, ob_st c a1 u → (r < 0 ∨ ∃ g, gp_gen (gn_S c a1) g ∧ r = nI (pg_o g)) → post r u) :
    wpX_carrier post (nI c, b0, s0, w0, o0, e0, a1, a2, a3, a4, a5, a6, a7) (nI x) (nI y) := by
  unfold wpX_carrier
  have hG := gn_sg hc
  refine br_f (nI_pos (by omega)) (br_f (nI_ge (b := 6) hx (by decide)) (br_f (nI_pos (by omega)) (br_t (nI_lt (b := 6) hy (by decide)) (wk_order hc hb (fun s0 b2 b3 b4 b5 on => ?_)))))
  have Hp := fun r => H r _ (ob_on (s0 := s0) (w0 := w0) (o0 := o0) (e0 := e0) (a4 := b4) (a5 := b5) (a6 := a6) (a7 := a7) on)
  have l7 := cn_720 (gp_gen (gn_S c a1))
  refine pk_loop (fun n k r => wX_carrier_34 post (nI x) (nI y) (nI (cn_ct (gp_gen (gn_S c a1)))) (nI c) 1 s0 w0 o0 e0 a1 b2 b3 b4 b5 a6 a7 n r (nI k)) (fun _ r => r < 0 ∨ ∃ g, gp_gen (gn_S c a1) g ∧ r = nI (pg_o g)) (cn_ct (gp_gen (gn_S c a1))) 0 (-4) (by omega) (Or.inl (by decide)) ?_ ?_
  · intro n r q
    exact pk_le _ _ (fun _ => Hp r q) (fun z => absurd z (by omega)) rfl rfl (by omega) (by omega)
  · intro n k r hk q hw
    obtain ⟨u, hu, eu⟩ := ch_el_in hG on.2 6 0 181896 k (by omega) pg_id_pm
    rw [pg_m1 (hG.1 _ hu.1)] at eu
    have ge : gp_gen (gn_S c a1) (ch_el b2 6 181896 k) := by
      rw [eu]
      exact hu.1
    have pe := hG.1 _ ge
    refine pk_le _ k (fun z => absurd z (by omega)) (fun _ => br_f (nI_ge (b := 720) (by omega) (by decide)) (wk_element hG on.1 on.2 (by omega) (wk_digit (by have := pe.1; omega) (by omega) (br_c (fun z => ?_) (fun z => ?_))))) rfl rfl (by omega) (by omega)
    · refine wk_toOutside pe.1 (br_c (fun _ => nm_r (nI_1 k) (hw _ (Or.inr ⟨_, ge, rfl⟩))) (fun _ => br_c (fun _ => nm_r (nI_1 k) (hw _ q)) (fun _ => nm_r (nI_1 k) (hw _ (Or.inr ⟨_, ge, rfl⟩)))))
    · exact nm_r (nI_1 k) (hw _ q)
theorem wk_product {post : Int32 → Prop} {c0 : Int32} {g h : Nat} (hg : pg_pm g) (hh : pg_pm h) (H : post (nI (pg_o (pg_m g h)))) : wpX_product post (c0, b0, s0, w0, o0, e0, a1, a2, a3, a4, a5, a6, a7) (nI (pg_o g)) (nI (pg_o h)) := by
  unfold wpX_product
  exact wk_bad hg (br_t rfl (wk_bad hh (br_t rfl (wk_from hg (wk_from hh (wk_times hg.1 hh.1 (wk_toOutside (pg_m_lt _ _) H)))))))
theorem wk_inverse {post : Int32 → Prop} {c0 : Int32} {g : Nat} (hg : pg_pm g) (H : post (nI (pg_o (pg_i g)))) : wpX_inverse post (c0, b0, s0, w0, o0, e0, a1, a2, a3, a4, a5, a6, a7) (nI (pg_o g)) := by
  unfold wpX_inverse
  exact wk_bad hg (br_t rfl (wk_from hg (wk_inverted hg.1 (wk_toOutside (pg_i_pm hg).1 H))))
theorem wk_has {post : Int32 → St1 → Prop} {g : Nat} (hc : gn_ok c a1) (hb : b0 = 0 ∨ (b0 = 1 ∧ ch_on c a1 a2 a3)) (hg : pg_pm g)
    (H1 : gp_gen (gn_S c a1) g → ∀ u, ob_st c a1 u → post 1 u) (H0 : ¬ gp_gen (gn_S c a1) g → ∀ u, ob_st c a1 u → post 0 u) :
    wpX_has post (nI c, b0, s0, w0, o0, e0, a1, a2, a3, a4, a5, a6, a7) (nI (pg_o g)) := by
  unfold wpX_has
  refine wk_bad hg (br_t rfl (wk_build hc hb (fun s0 b2 b3 b4 b5 on => wk_from hg (wk_siftB hc on hg (fun z => H1 z _ (ob_on on)) (fun z => H0 z _ (ob_on on)) (fun r z => z)))))
theorem wk_conjugateAll {post : Int32 → St1 → Prop} {h : Nat} (hc : gn_ok c a1) (hh : pg_pm h)
    (H : ∀ b1, gn_ok c b1 → (∀ s, gn_S c b1 s ↔ gl_S (gn_S c a1) h s) → post (nI c) (nI c, 0, s0, w0, o0, e0, b1, a2, a3, a4, a5, a6, a7)) :
    wpX_conjugateAll post (nI c, b0, s0, w0, o0, e0, a1, a2, a3, a4, a5, a6, a7) (nI (pg_o h)) := by
  have c5 := hc.1
  unfold wpX_conjugateAll
  refine wk_bad hh (br_t rfl (wk_from hh ?_))
  refine pk_loop (fun n k s => wX_conjugateAll_18 post (nI h) (nI c) b0 s0 w0 o0 e0 n (nI k) s a2 a3 a4 a5 a6 a7) (fun k s => (∀ j, j < k → s j = nI (gp_cj (ch_c a1 j) h)) ∧ ∀ j, k ≤ j → s j = a1 j) c 0 a1 (by omega) ⟨fun j hj => absurd hj (by omega), fun _ _ => rfl⟩ ?_ ?_
  · intro n s q
    have cj : ∀ k, k < c → ch_c s k = gp_cj (ch_c a1 k) h := fun k hk => ch_c_nI (q.1 k hk) (by have := (gp_cj_pm (hc.2 k hk).2 hh).1; omega)
    refine pk_le c c (fun _ => H s ⟨c5, fun k hk => ?_⟩ (fun t => ⟨?_, ?_⟩)) (fun z => absurd z (by omega))
    · rw [cj k hk]
      exact ⟨q.1 k hk, gp_cj_pm (hc.2 k hk).2 hh⟩
    · rintro ⟨k, hk, rfl⟩
      exact ⟨_, ⟨k, hk, rfl⟩, cj k hk⟩
    · rintro ⟨_, ⟨k, hk, rfl⟩, rfl⟩
      exact ⟨k, hk, (cj k hk).symm⟩
  · intro n k s hk q hw
    obtain ⟨e1, ps⟩ := hc.2 k hk
    refine pk_le c k (fun z => absurd z (by omega)) (fun _ => ⟨pk_in k 5 (by omega), ?_⟩)
    rw [nI_clamp (show k < 2 ^ 31 by omega), q.2 k (Nat.le_refl k), e1]
    refine wk_conjugated ps hh ⟨pk_in k 5 (by omega), nm_e (nm_r (nI_1 k) (hw _ ⟨fun j hj => ?_, fun j hj => ?_⟩))⟩
    · by_cases e : j = k
      · rw [e, pk_us]
      · rw [pk_un e]
        exact q.1 j (by omega)
    · rw [pk_un (by omega)]
      exact q.2 j (by omega)
end
end
section
def sr_B : Nat → Nat
  | 0 => 1
  | m + 1 => 7 + (m + 1) * sr_B m
theorem cn_nb_ge (Q : Nat → Prop) (i : Nat) (hi : i ≤ 6) (h : ∀ y, y < 6 → Q y → i ≤ y) : cn_nb Q 6 ≤ 6 - i := by
  have z : ∀ n, n ≤ i → cn_nb Q n = 0 := by
    intro n
    induction n with
    | zero => intro _; rfl
    | succ n ih =>
      intro hn
      rw [cn_nbf (fun q => by have := h n (by omega) q; omega)]
      exact ih (by omega)
  have t : ∀ d, cn_nb Q (i + d) ≤ d := by
    intro d
    induction d with
    | zero => exact Nat.le_of_eq (z i (Nat.le_refl i))
    | succ d ih =>
      show cn_nb Q (i + d + 1) ≤ d + 1
      by_cases q : Q (i + d)
      · rw [cn_nbt q]; omega
      · rw [cn_nbf q]; omega
  have w := t (6 - i)
  rw [show i + (6 - i) = 6 by omega] at w
  exact w
theorem cn_nb_step (Q : Nat → Prop) {a b : Nat} (h : a ≤ b) : cn_nb Q a ≤ cn_nb Q b := by
  obtain ⟨d, rfl⟩ := Nat.exists_eq_add_of_le h
  clear h
  induction d with
  | zero => exact Nat.le_refl _
  | succ d ih =>
    refine Nat.le_trans ih ?_
    show cn_nb Q (a + d) ≤ cn_nb Q (a + d + 1)
    by_cases q : Q (a + d)
    · rw [cn_nbt q]; omega
    · rw [cn_nbf q]; omega
theorem cn_sm_step (f : Nat → Nat) {a b : Nat} (h : a ≤ b) : cn_sm f a ≤ cn_sm f b := by
  obtain ⟨d, rfl⟩ := Nat.exists_eq_add_of_le h
  rw [cn_sm_cat]
  omega
/-- all images are as asked -/
def sr_P (Q : Nat → Nat → Prop) (g : Nat) : Prop := ∀ i, i < 6 → Q i (pg_d g i)
section
variable {s0 w0 o0 e0 x1 : Int32} {a1 a2 a3 a4 a5 : Nat → Int32} {c : Nat}
theorem wk_search0 {post : Int32 → St1 → Prop} {G : Nat → Prop} {Q : Nat → Nat → Prop} (hG : gp_sg G) (hr : ch_rep a2 a3) (hc : ch_ok G (ch_K a2) (ch_T a2))
    (hop : ∀ (p : Int32 → Prop) (i y : Nat) (h : Int32) (b6 b7 : Nat → Int32), i < 6 → y < 6 → (Q i y → p 1) → (¬ Q i y → p 0) → wpX_hopeful p (nI c, 1, s0, w0, o0, e0, a1, a2, a3, a4, a5, b6, b7) x1 (nI i) (nI y) h) :
    ∀ (m i h f r n : Nat) (a6 a7 : Nat → Int32), m + i = 6 → pg_pm h → (∀ j, j < i → Q j (pg_d h j)) → a7 i = nI h → a6 i = nI 0 → f + cn_ct (ch_C G (sr_P Q) i h) ≤ 720 → r + sr_B m ≤ 20000 → n + r = 20001 →
      (∀ (n' r' : Nat) (b6 b7 : Nat → Int32), n' + r' = 20001 → r' ≤ r + sr_B m → (∀ j, j < i → b6 j = a6 j ∧ b7 j = a7 j) → wX_search_27 post x1 721 (nI c) 1 s0 w0 o0 e0 n' (nI (f + cn_ct (ch_C G (sr_P Q) i h))) (nI i + (-1)) (nI r') a1 a2 a3 a4 a5 b6 b7) →
      wX_search_27 post x1 721 (nI c) 1 s0 w0 o0 e0 n (nI f) (nI i) (nI r) a1 a2 a3 a4 a5 a6 a7 := by
  intro m
  induction m with
  | zero =>
    intro i h f r n a6 a7 hm hh hq h7 h6 hf hB hn k
    obtain rfl : i = 6 := by omega
    have e : cn_ct (ch_C G (sr_P Q) 6 h) = 1 := by rw [ch_C6 hG _ hh, if_pos (cn_t (P := sr_P Q) hq)]
    rw [e] at k hf
    have hB' : r + 1 ≤ 20000 := hB
    obtain ⟨n, rfl⟩ : ∃ q, n = q + 1 := ⟨n - 1, by omega⟩
    refine br_f (nI_ge (b := 20000) (by omega) (by decide)) (br_f (nI_pos (by decide)) (br_f (nI_ge (b := 721) (by omega) (by decide)) (br_t rfl (nm_r (nI_1 f) (nm_e (nm_r (nI_1 r) (k n (r + 1) a6 a7 (by omega) (Nat.le_refl _) (fun j _ => ⟨rfl, rfl⟩))))))))
  | succ m ih =>
    intro i h f0 r0 n0 A6 A7 hm hh hq h7 h6 hf hB hn k
    have hi : i < 6 := by omega
    have q6 : cn_nb (ch_K a2 i) 6 ≤ m + 1 := by
      have t := cn_nb_ge (ch_K a2 i) i (by omega) (fun y hy ky => ch_K_ge hG hc hi hy ky)
      omega
    have eB : sr_B (m + 1) = 7 + (m + 1) * sr_B m := rfl
    rw [ch_dec hG hc _ hi hh] at hf k
    generalize eF : (fun y => if cn_b (ch_K a2 i) y then cn_ct (ch_C G (sr_P Q) (i + 1) (pg_m (ch_T a2 i y) h)) else 0) = F at hf k
    have eF' : ∀ y, F y = if cn_b (ch_K a2 i) y then cn_ct (ch_C G (sr_P Q) (i + 1) (pg_m (ch_T a2 i y) h)) else 0 := fun y => by rw [← eF]
    have node : ∀ (u t r n : Nat) (a6 a7 : Nat → Int32), u + t = 6 → (∀ j, j < i → a6 j = A6 j ∧ a7 j = A7 j) → a7 i = nI h → a6 i = nI t → r ≤ r0 + t + cn_nb (ch_K a2 i) t * sr_B m → n + r = 20001 →
        wX_search_27 post x1 721 (nI c) 1 s0 w0 o0 e0 n (nI (f0 + cn_sm F t)) (nI i) (nI r) a1 a2 a3 a4 a5 a6 a7 := by
      intro u
      induction u with
      | zero =>
        intro t r n a6 a7 hu ho g7 g6 hrr hn'
        obtain rfl : t = 6 := by omega
        have hq6 : cn_nb (ch_K a2 i) 6 * sr_B m ≤ (m + 1) * sr_B m := Nat.mul_le_mul_right _ q6
        obtain ⟨n, rfl⟩ : ∃ q, n = q + 1 := ⟨n - 1, by omega⟩
        refine br_f (nI_ge (b := 20000) (by omega) (by decide)) (br_f (nI_pos (by omega)) (br_f (nI_ge (b := 721) (by omega) (by decide)) (pk_eq i 6 (fun z => absurd z (by omega)) (fun _ => ⟨pk_in i 7 (by omega), ?_⟩))))
        rw [nI_clamp (show i < 2 ^ 31 by omega), g6]
        exact br_t rfl (nm_e (nm_r (nI_1 r) (k n (r + 1) a6 a7 (by omega) (by omega) ho)))
      | succ u ihu =>
        intro t r n a6 a7 hu ho g7 g6 hrr hn'
        have ht : t < 6 := by omega
        have hqt : cn_nb (ch_K a2 i) t * sr_B m ≤ (m + 1) * sr_B m := Nat.mul_le_mul_right _ (Nat.le_trans (cn_nb_step _ (by omega)) q6)
        have ft : cn_sm F t ≤ cn_sm F 6 := cn_sm_step F (by omega)
        have ft1 : cn_sm F (t + 1) ≤ cn_sm F 6 := cn_sm_step F (by omega)
        have fS : cn_sm F (t + 1) = cn_sm F t + F t := rfl
        obtain ⟨n, rfl⟩ : ∃ q, n = q + 1 := ⟨n - 1, by omega⟩
        refine br_f (nI_ge (b := 20000) (by omega) (by decide)) (br_f (nI_pos (by omega)) (br_f (nI_ge (b := 721) (by omega) (by decide)) (pk_eq i 6 (fun z => absurd z (by omega)) (fun _ => ⟨pk_in i 7 (by omega), ?_⟩))))
        rw [nI_clamp (show i < 2 ^ 31 by omega), g6]
        refine pk_eq t 6 (fun z => absurd z (by omega)) (fun _ => ⟨pk_in i 7 (by omega), wk_in hi ht, nm_e ⟨pk_in i 7 (by omega), pk_in i 7 (by omega), nm_e ?_⟩⟩)
        rw [wk_ix hi ht, nI_1 t]
        have go : ∀ (v : Nat), F t = v → r + 1 ≤ r0 + (t + 1) + cn_nb (ch_K a2 i) (t + 1) * sr_B m → wX_search_27 post x1 721 (nI c) 1 s0 w0 o0 e0 n (nI (f0 + cn_sm F t + v)) (nI i) (nI (r + 1)) a1 a2 a3 a4 a5 (upd a6 i (nI (t + 1))) a7 := by
          intro v ev hb
          have w := ihu (t + 1) (r + 1) n (upd a6 i (nI (t + 1))) a7 (by omega) (fun j hj => ⟨by rw [pk_un (by omega)]; exact (ho j hj).1, (ho j hj).2⟩) g7 pk_us hb (by omega)
          rw [fS, ev, ← Nat.add_assoc] at w
          exact w
        by_cases K : ch_K a2 i t
        · have qS : cn_nb (ch_K a2 i) (t + 1) = cn_nb (ch_K a2 i) t + 1 := cn_nbt K
          have mulS : (cn_nb (ch_K a2 i) t + 1) * sr_B m = cn_nb (ch_K a2 i) t * sr_B m + sr_B m := Nat.succ_mul _ _
          have q1 : (cn_nb (ch_K a2 i) t + 1) * sr_B m ≤ (m + 1) * sr_B m := Nat.mul_le_mul_right _ (by have := cn_nb_step (ch_K a2 i) (show t + 1 ≤ 6 by omega); omega)
          have Ft : F t = cn_ct (ch_C G (sr_P Q) (i + 1) (pg_m (ch_T a2 i t) h)) := by rw [eF', if_pos (cn_t K)]
          obtain ⟨r1, _, pt⟩ := hr i hi t ht K
          obtain ⟨⟨gt, fx⟩, dt⟩ := (hc i hi t ht).2 K
          have ph := pg_m_pm pt hh
          have dl := pg_d_lt ph hi
          refine br_f K ⟨pk_in i 7 (by omega), ?_⟩
          rw [r1, g7]
          refine wk_times pt.1 hh.1 (wk_digit (by have := ph.1; omega) (by omega) (hop _ i _ _ _ _ hi dl (fun yes => br_f (by decide) ?_) (fun no => br_t rfl (nm_r (nI_1 r) ?_))))
          · have w := ih (i + 1) (pg_m (ch_T a2 i t) h) (f0 + cn_sm F t) (r + 1) n (upd (upd a6 i (nI (t + 1))) (i + 1) (nI 0)) (upd a7 (i + 1) (nI (pg_m (ch_T a2 i t) h))) (by omega) ph (fun j hj => ?_) pk_us pk_us (by rw [← Ft]; omega) (by omega) (by omega) (fun n' r' b6 b7 hn'' hr' hb => ?_)
            · refine nm_r (nI_1 i) ⟨pk_in (i + 1) 7 (by omega), nm_r (by rw [nI_clamp (show i + 1 < 2 ^ 31 by omega), ← nI_0]) ⟨pk_in (i + 1) 7 (by omega), nm_r (by rw [nI_clamp (show i + 1 < 2 ^ 31 by omega)]) (nm_r (nI_1 r) w)⟩⟩
            · rcases Nat.lt_or_ge j i with z | z
              · rw [pg_m_d _ _ (by omega), fx j z]
                exact hq j z
              · obtain rfl : j = i := by omega
                exact yes
            · rw [← Ft, pk_m1]
              have z := ihu (t + 1) r' n' b6 b7 (by omega) (fun j hj => ?_) ?_ ?_ (by rw [qS]; omega) hn''
              · rw [fS, ← Nat.add_assoc] at z
                exact z
              · have b := hb j (by omega)
                rw [pk_un (by omega), pk_un (by omega), pk_un (by omega)] at b
                exact ⟨b.1.trans (ho j hj).1, b.2.trans (ho j hj).2⟩
              · have b := (hb i (by omega)).2
                rw [pk_un (by omega)] at b
                exact b.trans g7
              · have b := (hb i (by omega)).1
                rw [pk_un (by omega), pk_us] at b
                exact b
          · refine go 0 ?_ (by rw [qS]; omega)
            rw [Ft]
            refine cn_zero (fun g hg z => no ?_)
            have y := z.2 i hi
            have x := z.1.2 i (by omega)
            rw [pg_m_d _ _ hi] at x
            have v := pg_id_r ph (pg_d_lt hg hi)
            rw [x] at v
            rw [v]
            exact y
        · refine br_t (Classical.byContradiction K) (nm_r (nI_1 r) (go 0 ?_ (by rw [cn_nbf K]; omega)))
          rw [eF', if_neg (fun z => K (cn_bt.mp z))]
    exact node 6 0 r0 n0 A6 A7 (by omega) (fun _ _ => ⟨rfl, rfl⟩) h7 h6 (by omega) hn
end
section
variable {b0 s0 w0 o0 e0 x1 : Int32} {a1 a2 a3 a4 a5 a6 a7 : Nat → Int32} {c : Nat}
theorem wk_search {post : Int32 → St1 → Prop} {Q : Nat → Nat → Prop} (hc : gn_ok c a1) (hb : b0 = 0 ∨ (b0 = 1 ∧ ch_on c a1 a2 a3))
    (hop : ∀ (p : Int32 → Prop) (i y : Nat) (h s0 : Int32) (b2 b3 b4 b5 b6 b7 : Nat → Int32), i < 6 → y < 6 → (Q i y → p 1) → (¬ Q i y → p 0) → wpX_hopeful p (nI c, 1, s0, w0, o0, e0, a1, b2, b3, b4, b5, b6, b7) x1 (nI i) (nI y) h)
    (H : ∀ u, ob_st c a1 u → post (nI (cn_ct (fun g => gp_gen (gn_S c a1) g ∧ sr_P Q g))) u) :
    wpX_search post (nI c, b0, s0, w0, o0, e0, a1, a2, a3, a4, a5, a6, a7) x1 721 := by
  unfold wpX_search
  have hG := gn_sg hc
  refine wk_build hc hb (fun s0 b2 b3 b4 b5 on => nm_e (nm_e ⟨20001, ?_⟩))
  refine wk_search0 (G := gp_gen (gn_S c a1)) (Q := Q) hG on.1 on.2 (fun p i y h b6 b7 => hop p i y h s0 b2 b3 b4 b5 b6 b7) 6 0 181896 0 0 20001 _ _ (by omega) pg_id_pm (fun j hj => absurd hj (by omega)) pk_us pk_us (by have := cn_720 (ch_C (gp_gen (gn_S c a1)) (sr_P Q) 0 181896); omega) (by decide) (by omega) (fun n' r' b6 b7 hn hr _ => ?_)
  have B6 : sr_B 6 = 9379 := by decide
  rw [B6] at hr
  obtain ⟨n, rfl⟩ : ∃ q, n' = q + 1 := ⟨n' - 1, by omega⟩
  rw [Nat.zero_add, ch_C0]
  exact br_f (nI_ge (b := 20000) (by omega) (by decide)) (br_t (by decide) (H _ (ob_on on)))
theorem wk_badSet {post : Int32 → Prop} {c0 : Int32} {A : Nat} (hA : A < 64) (h : post 0) : wpX_badSet post (c0, b0, s0, w0, o0, e0, a1, a2, a3, a4, a5, a6, a7) (nI A) := by
  unfold wpX_badSet
  exact br_f (nI_pos (by omega)) (br_t (nI_le (b := 63) (by omega) (by decide)) h)
theorem wk_hop0 {A : Nat} (hA : A < 64) {c0 : Int32} (p : Int32 → Prop) (i y : Nat) (h : Int32) (hi : i < 6) (hy : y < 6) (H1 : (A / 2 ^ i % 2 = 1 → y = i) → p 1) (H0 : ¬ (A / 2 ^ i % 2 = 1 → y = i) → p 0) :
    wpX_hopeful p (c0, b0, s0, w0, o0, nI A, a1, a2, a3, a4, a5, a6, a7) 0 (nI i) (nI y) h := by
  unfold wpX_hopeful wX_hopeful_17
  refine ek_if (wk_b1 (by omega) (by omega)) (fun z => br_t rfl (br_f (by decide) (pk_eq y i (fun e => H1 (fun _ => e)) (fun e => H0 (fun w => e (w z)))))) (fun z => br_t rfl (br_t rfl (H1 (fun w => absurd w z))))
theorem wk_hop1 {A : Nat} (hA : A < 64) {c0 : Int32} (p : Int32 → Prop) (i y : Nat) (h : Int32) (hi : i < 6) (hy : y < 6) (H1 : (A / 2 ^ i % 2 = 1 ↔ A / 2 ^ y % 2 = 1) → p 1) (H0 : ¬ (A / 2 ^ i % 2 = 1 ↔ A / 2 ^ y % 2 = 1) → p 0) :
    wpX_hopeful p (c0, b0, s0, w0, o0, nI A, a1, a2, a3, a4, a5, a6, a7) 1 (nI i) (nI y) h := by
  unfold wpX_hopeful wX_hopeful_17 wX_hopeful_63
  refine ek_if (wk_b1 (by omega) (by omega)) (fun z => br_f (by decide) (br_t rfl (ek_if (wk_b1 (by omega) (by omega)) (fun w => br_t rfl (H1 ⟨fun _ => w, fun _ => z⟩)) (fun w => br_f (by decide) (H0 (fun e => w (e.mp z))))))) (fun z => br_f (by decide) (br_t rfl (ek_if (wk_b1 (by omega) (by omega)) (fun w => br_f (by decide) (H0 (fun e => z (e.mpr w)))) (fun w => br_t rfl (H1 ⟨fun t => absurd t z, fun t => absurd t w⟩)))))
theorem wk_fixing {post : Int32 → St1 → Prop} {x : Nat} (hx : x < 6) (hc : gn_ok c a1) (hb : b0 = 0 ∨ (b0 = 1 ∧ ch_on c a1 a2 a3))
    (H : ∀ u, ob_st c a1 u → post (nI (cn_ct (fun g => gp_gen (gn_S c a1) g ∧ pg_d g x = x))) u) :
    wpX_fixing post (nI c, b0, s0, w0, o0, e0, a1, a2, a3, a4, a5, a6, a7) (nI (2 ^ x)) := by
  have l : 2 ^ x < 64 := Nat.pow_lt_pow_right (n := 6) (by omega) hx
  have bt : ∀ i, i < 6 → ∀ x, x < 6 → (2 ^ x / 2 ^ i % 2 = 1 ↔ i = x) := by decide +kernel
  unfold wpX_fixing
  refine wk_badSet l (br_t rfl (wk_search (Q := fun i y => 2 ^ x / 2 ^ i % 2 = 1 → y = i) hc hb (fun p i y h _ _ _ _ _ _ _ hi hy H1 H0 => wk_hop0 l p i y h hi hy H1 H0) (fun u hu => ?_)))
  have e : cn_ct (fun g => gp_gen (gn_S c a1) g ∧ sr_P (fun i y => 2 ^ x / 2 ^ i % 2 = 1 → y = i) g) = cn_ct (fun g => gp_gen (gn_S c a1) g ∧ pg_d g x = x) := by
    refine cn_congr (fun g _ => and_congr_right (fun _ => ⟨fun z => z x hx ((bt x hx x hx).mpr rfl), fun z i hi w => ?_⟩))
    rw [(bt i hi x hx).mp w]
    exact z
  rw [e]
  obtain ⟨b0, s0, w0, o0, e0, a2, a3, a4, a5, a6, a7, rfl, q⟩ := hu
  exact H _ ⟨b0, s0, w0, o0, e0, a2, a3, a4, a5, a6, a7, rfl, q⟩
theorem wk_keeping {post : Int32 → St1 → Prop} {A : Nat} (hA : A < 64) (hc : gn_ok c a1) (hb : b0 = 0 ∨ (b0 = 1 ∧ ch_on c a1 a2 a3))
    (H : ∀ u, ob_st c a1 u → post (nI (cn_ct (gl_K (gp_gen (gn_S c a1)) (fun i => A / 2 ^ i % 2 = 1)))) u) :
    wpX_keeping post (nI c, b0, s0, w0, o0, e0, a1, a2, a3, a4, a5, a6, a7) (nI A) := by
  unfold wpX_keeping
  refine wk_badSet hA (br_t rfl (wk_search (Q := fun i y => A / 2 ^ i % 2 = 1 ↔ A / 2 ^ y % 2 = 1) hc hb (fun p i y h _ _ _ _ _ _ _ hi hy H1 H0 => wk_hop1 hA p i y h hi hy H1 H0) (fun u hu => ?_)))
  obtain ⟨b0, s0, w0, o0, e0, a2, a3, a4, a5, a6, a7, rfl, q⟩ := hu
  exact H _ ⟨b0, s0, w0, o0, e0, a2, a3, a4, a5, a6, a7, rfl, q⟩
theorem wk_images {post : Int32 → St1 → Prop} {A : Nat} (hA : A < 64) (hc : gn_ok c a1) (hb : b0 = 0 ∨ (b0 = 1 ∧ ch_on c a1 a2 a3))
    (H : ∀ u, ob_st c a1 u → post (nI (cn_ct (gp_gen (gn_S c a1)) / cn_ct (gl_K (gp_gen (gn_S c a1)) (fun i => A / 2 ^ i % 2 = 1)))) u) :
    wpX_images post (nI c, b0, s0, w0, o0, e0, a1, a2, a3, a4, a5, a6, a7) (nI A) := by
  have k0 := (gl_keep (gn_sg hc) (fun i => A / 2 ^ i % 2 = 1)).1
  have k1 := cn_720 (gl_K (gp_gen (gn_S c a1)) (fun i => A / 2 ^ i % 2 = 1))
  have k2 := cn_720 (gp_gen (gn_S c a1))
  unfold wpX_images
  refine wk_badSet hA (br_t rfl (wk_keeping hA hc hb (fun u hu => ?_)))
  obtain ⟨b0, s0, w0, o0, e0, a2, a3, a4, a5, a6, a7, rfl, q⟩ := hu
  refine br_f (nI_nle k0 (by omega)) (wk_order hc q (fun s0 b2 b3 b4 b5 on => ⟨nI_ne0 k0 (by omega), ?_⟩))
  rw [pk_div (by omega) k0 (by omega)]
  exact H _ (ob_on on)
end
end
section
/-- y is in the set B -/
def st_b (B y : Nat) : Prop := B / 2 ^ y % 2 = 1
theorem st_tb {B y : Nat} : st_b B y ↔ B.testBit y = true := by
  unfold st_b
  rw [Nat.testBit_eq_decide_div_mod_eq, decide_eq_true_iff]
theorem st_or {A B y : Nat} : st_b (A ||| B) y ↔ st_b A y ∨ st_b B y := by
  rw [st_tb, st_tb, st_tb, Nat.testBit_or, Bool.or_eq_true]
theorem st_or_lt {A B : Nat} (hA : A < 64) (hB : B < 64) : A ||| B < 64 := Nat.or_lt_two_pow (n := 6) hA hB
theorem st_pw : ∀ k, k < 6 → ∀ y, y < 6 → (st_b (2 ^ k) y ↔ y = k) := by
  unfold st_b
  decide +kernel
theorem st_pw_lt {k : Nat} (hk : k < 6) : 2 ^ k < 64 := Nat.pow_lt_pow_right (n := 6) (by omega) hk
theorem st_0 {y : Nat} : ¬ st_b 0 y := by
  unfold st_b
  rw [Nat.zero_div]
  omega
section
variable {b0 s0 w0 o0 e0 c0 : Int32} {a1 a2 a3 a4 a5 a6 a7 : Nat → Int32} {c : Nat}
theorem wk_imageOf {post : Int32 → Prop} {A g : Nat} (hA : A < 64) (hg : pg_pm g) (H : ∀ B, B < 64 → (∀ y, y < 6 → (st_b B y ↔ ∃ x, x < 6 ∧ st_b A x ∧ pg_d g x = y)) → post (nI B)) :
    wpX_imageOf post (c0, b0, s0, w0, o0, e0, a1, a2, a3, a4, a5, a6, a7) (nI A) (nI g) := by
  show ∃ n, wX_imageOf_5 post (nI A) (nI g) c0 b0 s0 w0 o0 e0 a1 a2 a3 a4 a5 a6 a7 n 0 0
  refine pk_loop (fun n x B => wX_imageOf_5 post (nI A) (nI g) c0 b0 s0 w0 o0 e0 a1 a2 a3 a4 a5 a6 a7 n (nI B) (nI x)) (fun x B => B < 64 ∧ ∀ y, y < 6 → (st_b B y ↔ ∃ x', x' < x ∧ st_b A x' ∧ pg_d g x' = y)) 6 0 0 (by omega) ⟨by omega, fun y _ => ⟨fun z => absurd z st_0, fun ⟨x', h, _⟩ => absurd h (by omega)⟩⟩ ?_ ?_
  · intro n B q
    exact pk_le 6 6 (fun _ => H B q.1 q.2) (fun z => absurd z (by omega))
  · intro n x B hx q hw
    have dl := pg_d_lt hg hx
    refine pk_le 6 x (fun z => absurd z (by omega)) (fun _ => ek_if (wk_b1 (by omega) (by omega)) (fun z => wk_digit (by have := hg.1; omega) (by omega) (nm_r ?_ (nm_r (nI_1 x) (hw (B ||| 2 ^ pg_d g x) ⟨st_or_lt q.1 (st_pw_lt dl), fun y hy => ?_⟩)))) (fun z => nm_r (nI_1 x) (hw B ⟨q.1, fun y hy => ?_⟩)))
    · rw [wk_pow (by omega), wk_or]
    · rw [st_or, q.2 y hy, st_pw _ dl y hy]
      constructor
      · rintro (⟨x', h1, h2⟩ | h)
        · exact ⟨x', by omega, h2⟩
        · exact ⟨x, by omega, z, h.symm⟩
      · rintro ⟨x', h1, h2, h3⟩
        by_cases e : x' = x
        · rw [e] at h3
          exact Or.inr h3.symm
        · exact Or.inl ⟨x', by omega, h2, h3⟩
    · rw [q.2 y hy]
      constructor
      · rintro ⟨x', h1, h2⟩
        exact ⟨x', by omega, h2⟩
      · rintro ⟨x', h1, h2, h3⟩
        by_cases e : x' = x
        · rw [e] at h2
          exact absurd h2 z
        · exact ⟨x', by omega, h2, h3⟩
/-- what orbit keeps true -/
def or_s (G : Nat → Prop) (x B : Nat) : Prop := B < 64 ∧ st_b B x ∧ ∀ y, y < 6 → st_b B y → ∃ u, G u ∧ pg_d u x = y
def or_c (S : Nat → Prop) (B : Nat) : Prop := ∀ y, y < 6 → st_b B y → ∀ s, S s → st_b B (pg_d s y)
theorem wk_orbit {post : Int32 → Prop} {x : Nat} (hc : gn_ok c a1) (hx : x < 6) (H : ∀ B, B < 64 → (∀ y, y < 6 → (st_b B y ↔ ∃ u, gp_gen (gn_S c a1) u ∧ pg_d u x = y)) → post (nI B)) :
    wpX_orbit post (nI c, b0, s0, w0, o0, e0, a1, a2, a3, a4, a5, a6, a7) (nI x) := by
  have c5 := hc.1
  have SP := gn_pm hc
  have hG := gn_sg hc
  have reach : ∀ B, or_s (gp_gen (gn_S c a1)) x B → or_c (gn_S c a1) B → ∀ u, gp_gen (gn_S c a1) u → st_b B (pg_d u x) := by
    intro B hs hcl u hu
    refine (gp_ind (P := fun u => pg_pm u ∧ st_b B (pg_d u x)) hu ⟨pg_id_pm, by rw [pg_id_d x hx]; exact hs.2.1⟩ (fun a s ha h => ⟨pg_m_pm ha.1 (SP s h), ?_⟩)).2
    rw [pg_m_d _ _ hx]
    exact hcl _ (pg_d_lt ha.1 hx) ha.2 s h
  unfold wpX_orbit
  refine br_f (nI_pos (by omega)) (br_t (nI_lt (b := 6) hx (by decide)) (nm_r (wk_pow (by omega)) ?_))
  refine pk_loop (fun n r B => wX_orbit_18 post (nI c) b0 s0 w0 o0 e0 a1 a2 a3 a4 a5 a6 a7 n (nI B) (nI r)) (fun r B => or_s (gp_gen (gn_S c a1)) x B ∧ (or_c (gn_S c a1) B ∨ r < cn_nb (st_b B) 6)) 6 0 (2 ^ x) (by omega) ?_ ?_ ?_
  · have xx := (st_pw x hx x hx).mpr rfl
    refine ⟨⟨st_pw_lt hx, xx, fun y hy z => ?_⟩, Or.inr (cn_nb_pos hx xx)⟩
    rw [(st_pw x hx y hy).mp z]
    exact ⟨181896, hG.2.1, pg_id_d x hx⟩
  · intro n B q
    refine pk_le 6 6 (fun _ => H B q.1.1 (fun y hy => ⟨q.1.2.2 y hy, ?_⟩)) (fun z => absurd z (by omega))
    have cl : or_c (gn_S c a1) B := by
      rcases q.2 with z | z
      · exact z
      · have := cn_nb_le (st_b B) 6
        omega
    rintro ⟨u, hu, rfl⟩
    exact reach B q.1 cl u hu
  · intro n r B hr q hw
    refine pk_le 6 r (fun z => absurd z (by omega)) (fun _ => ?_)
    refine pk_loop (fun m k D => wX_orbit_27 post (wX_orbit_18 post (nI c) b0 s0 w0 o0 e0 a1 a2 a3 a4 a5 a6 a7 n) (nI r) (nI c) b0 s0 w0 o0 e0 a1 a2 a3 a4 a5 a6 a7 m (nI D) (nI k)) (fun k D => or_s (gp_gen (gn_S c a1)) x D ∧ (∀ y, y < 6 → st_b B y → st_b D y) ∧ ∀ y, y < 6 → st_b B y → ∀ j, j < k → st_b D (pg_d (ch_c a1 j) y)) c 0 B (by omega) ⟨q.1, fun _ _ z => z, fun _ _ _ j hj => absurd hj (by omega)⟩ ?_ ?_
    · intro m D p
      have p3 : ∀ y, y < 6 → st_b B y → ∀ s, gn_S c a1 s → st_b D (pg_d s y) := by
        rintro y hy z s ⟨j, hj, rfl⟩
        exact p.2.2 y hy z j hj
      refine pk_le c c (fun _ => nm_r (nI_1 r) (hw D ⟨p.1, ?_⟩)) (fun z => absurd z (by omega))
      by_cases cl : or_c (gn_S c a1) B
      · refine Or.inl (fun y hy z s hs => ?_)
        obtain ⟨u, hu, e⟩ := p.1.2.2 y hy z
        have w := reach B q.1 cl u hu
        rw [e] at w
        exact p3 y hy w s hs
      · have q3 : r < cn_nb (st_b B) 6 := q.2.resolve_left cl
        refine Or.inr ?_
        have ex : ∃ z, z < 6 ∧ ¬ st_b B z ∧ st_b D z := by
          refine Classical.byContradiction (fun ne => cl (fun y hy k s hS => ?_))
          exact Classical.byContradiction (fun nk => ne ⟨pg_d s y, pg_d_lt (SP s hS) hy, nk, p3 y hy k s hS⟩)
        obtain ⟨z, z1, z2, z3⟩ := ex
        have := cn_nb_lt 6 p.2.1 z1 z2 z3
        omega
    · intro m k D hk p hv
      obtain ⟨e1, ps⟩ := hc.2 k hk
      refine pk_le c k (fun z => absurd z (by omega)) (fun _ => ⟨pk_in k 5 (by omega), ?_⟩)
      rw [nI_clamp (show k < 2 ^ 31 by omega), e1]
      refine wk_imageOf p.1.1 ps (fun E hE he => nm_r (wk_or D E) (nm_r (nI_1 k) (hv (D ||| E) ⟨⟨st_or_lt p.1.1 hE, st_or.mpr (Or.inl p.1.2.1), fun y hy z => ?_⟩, fun y hy z => st_or.mpr (Or.inl (p.2.1 y hy z)), fun y hy z j hj => ?_⟩)))
      · rcases st_or.mp z with w | w
        · exact p.1.2.2 y hy w
        · obtain ⟨x', h1, h2, h3⟩ := (he y hy).mp w
          obtain ⟨u, hu, eu⟩ := p.1.2.2 x' h1 h2
          refine ⟨pg_m u (ch_c a1 k), gp_step hu ⟨k, hk, rfl⟩, ?_⟩
          rw [pg_m_d _ _ hx, eu, h3]
      · by_cases e : j = k
        · rw [e]
          exact st_or.mpr (Or.inr ((he _ (pg_d_lt ps hy)).mpr ⟨y, hy, p.2.1 y hy z, rfl⟩))
        · exact st_or.mpr (Or.inl (p.2.2 y hy z j (by omega)))
theorem wk_bits {post : Int32 → Prop} {B : Nat} (hB : B < 64) (h : post (nI (cn_nb (st_b B) 6))) : wpL_bits post () (nI B) := by
  show ∃ n, wL_bits_4 post (nI B) n 0 0
  refine pk_loop (σ := Unit) (fun n y _ => wL_bits_4 post (nI B) n (nI (cn_nb (st_b B) y)) (nI y)) (fun _ _ => True) 6 0 () (by omega) trivial ?_ ?_
  · intro n _ _
    exact pk_le 6 6 (fun _ => h) (fun z => absurd z (by omega))
  · intro n y _ hy _ hw
    refine pk_le 6 y (fun z => absurd z (by omega)) (fun _ => nm_r ?_ (nm_r (nI_1 y) (hw () trivial)))
    rw [wk_bit (by omega) (by omega), nI_add]
    by_cases q : st_b B y
    · rw [cn_nbt (Q := st_b B) q, show B / 2 ^ y % 2 = 1 from q]
    · rw [cn_nbf (Q := st_b B) q, show B / 2 ^ y % 2 = 0 by unfold st_b at q; omega, Nat.add_zero]
theorem wk_remove {post : Int32 → St1 → Prop} (hc : gn_ok c a1) (hb : b0 = 0 ∨ (b0 = 1 ∧ ch_on c a1 a2 a3))
    (H : ∀ r u, (∃ c' b1, gn_ok c' b1 ∧ ob_st c' b1 u) → post r u) : wpX_remove post (nI c, b0, s0, w0, o0, e0, a1, a2, a3, a4, a5, a6, a7) := by
  have c5 := hc.1
  unfold wpX_remove
  refine pk_eq c 0 (fun z => H _ _ ⟨c, a1, hc, b0, s0, w0, o0, e0, a2, a3, a4, a5, a6, a7, rfl, hb⟩) (fun z => nm_r (e' := nI (c - 1)) ?_ ⟨pk_in (c - 1) 5 (by omega), ?_⟩)
  · have t := nI_pred (c - 1)
    rw [show c - 1 + 1 = c by omega] at t
    exact t
  · obtain ⟨e1, ps⟩ := hc.2 (c - 1) (by omega)
    rw [nI_clamp (show c - 1 < 2 ^ 31 by omega), e1]
    exact wk_toOutside ps.1 (H _ _ ⟨c - 1, a1, ⟨by omega, fun k hk => hc.2 k (by omega)⟩, 0, s0, w0, o0, e0, a2, a3, a4, a5, a6, a7, rfl, Or.inl rfl⟩)
theorem wk_add {post : Int32 → St1 → Prop} {g : Nat} (hc : gn_ok c a1) (hb : b0 = 0 ∨ (b0 = 1 ∧ ch_on c a1 a2 a3)) (hg : pg_pm g)
    (H : ∀ r u, (∃ c' b1, gn_ok c' b1 ∧ ob_st c' b1 u) → post r u) : wpX_add post (nI c, b0, s0, w0, o0, e0, a1, a2, a3, a4, a5, a6, a7) (nI (pg_o g)) := by
  have c5 := hc.1
  unfold wpX_add
  refine wk_bad hg (br_t rfl (pk_eq c 5 (fun z => H _ _ ⟨c, a1, hc, b0, s0, w0, o0, e0, a2, a3, a4, a5, a6, a7, rfl, hb⟩) (fun z => wk_from hg ⟨pk_in c 5 (by omega), nm_r (by rw [nI_clamp (show c < 2 ^ 31 by omega)]) (nm_r (nI_1 c) (H _ _ ⟨c + 1, upd a1 c (nI g), ⟨by omega, fun k hk => ?_⟩, 0, s0, w0, o0, e0, a2, a3, a4, a5, a6, a7, rfl, Or.inl rfl⟩))⟩)))
  by_cases e : k = c
  · rw [e, ch_c_nI pk_us (by have := hg.1; omega), pk_us]
    exact ⟨rfl, hg⟩
  · have o : ch_c (upd a1 c (nI g)) k = ch_c a1 k := by unfold ch_c; rw [pk_un e]
    rw [o, pk_un e]
    exact hc.2 k (by omega)
theorem wk_turn {post : Int32 → St1 → Prop} {p q : Int32} (hc : gn_ok c a1) (hb : b0 = 0 ∨ (b0 = 1 ∧ ch_on c a1 a2 a3))
    (H : ∀ r u, (∃ c' b1, gn_ok c' b1 ∧ ob_st c' b1 u) → post r u) : wpL_turn post (nI c, b0, s0, w0, o0, e0, a1, a2, a3, a4, a5, a6, a7) p q := by
  unfold wpL_turn
  refine nm_e (wk_permutation (fun g hg => br_c (fun _ => br_c (fun _ => ?_) (fun _ => ?_)) (fun _ => ?_)))
  · exact wk_conjugateAll hc hg (fun b1 hb1 _ => H _ _ ⟨c, b1, hb1, 0, s0, w0, o0, e0, a2, a3, a4, a5, a6, a7, rfl, Or.inl rfl⟩)
  · refine wk_remove hc hb (fun r u hu => ?_)
    obtain ⟨c', b1, h1, b0, s0, w0, o0, e0, a2, a3, a4, a5, a6, a7, rfl, q⟩ := hu
    exact H _ _ ⟨c', b1, h1, b0, s0, w0, o0, e0, a2, a3, a4, a5, a6, a7, rfl, q⟩
  · refine wk_add hc hb hg (fun r u hu => ?_)
    obtain ⟨c', b1, h1, b0, s0, w0, o0, e0, a2, a3, a4, a5, a6, a7, rfl, q⟩ := hu
    exact H _ _ ⟨c', b1, h1, b0, s0, w0, o0, e0, a2, a3, a4, a5, a6, a7, rfl, q⟩
end
end
section
section
variable {b0 s0 w0 o0 e0 : Int32} {a1 a2 a3 a4 a5 a6 a7 : Nat → Int32} {c L kc ks : Nat} {xs : Nat → Int32}
theorem la_369 {k : Nat} (hc : gn_ok c a1) (hk : pg_pm k) :
    wL_law_369 (fun r => r = 1) L xs (nI (cn_ct (gp_gen (gn_S c a1)))) (nI (cn_ct (gl_Z (gn_S c a1)))) (nI (cn_ct (gl_N (gn_S c a1)))) (nI (pg_o k)) kc ks (nI c) b0 s0 w0 o0 e0 a1 a2 a3 a4 a5 a6 a7 := by
  have SP := gn_pm hc
  unfold wL_law_369
  refine wk_conjugateAll hc hk (fun b1 h1 hS => ?_)
  have eS : gn_S c b1 = gl_S (gn_S c a1) k := funext (fun s => propext (hS s))
  have e1 := gl_c_order SP hk
  have e2 := gl_c_centre SP hk
  have e3 := gl_c_norm SP hk
  rw [← eS] at e1 e2 e3
  rw [← e1, ← e2, ← e3]
  show (nI c = nI c → _) ∧ (¬ nI c = nI c → _)
  refine br_t rfl (wk_order h1 (Or.inl rfl) (fun s0 d2 d3 d4 d5 on => br_t rfl (wk_centre h1 (Or.inr ⟨rfl, on⟩) (fun u hu => ?_))))
  obtain ⟨b0, s0, w0, o0, e0, a2, a3, a4, a5, a6, a7, rfl, q⟩ := hu
  refine br_t rfl (wk_normaliser h1 q (fun u hu => ?_))
  obtain ⟨b0, s0, w0, o0, e0, a2, a3, a4, a5, a6, a7, rfl, q⟩ := hu
  exact br_t rfl rfl
theorem la_322 {k : Nat} (hc : gn_ok c a1) (hb : b0 = 0 ∨ (b0 = 1 ∧ ch_on c a1 a2 a3)) (hk : pg_pm k) :
    wL_law_322 (fun r => r = 1) L xs (nI (cn_ct (gp_gen (gn_S c a1)))) (nI (cn_ct (gl_Z (gn_S c a1)))) (nI (cn_ct (gl_N (gn_S c a1)))) (nI (pg_o k)) kc ks (nI c) b0 s0 w0 o0 e0 a1 a2 a3 a4 a5 a6 a7 := by
  have hG := gn_sg hc
  unfold wL_law_322
  refine wk_product hk hk (wk_inverse hk (wk_has hc hb hk (fun gk u hu => ?_) (fun gk u hu => ?_)))
  · obtain ⟨b0, s0, w0, o0, e0, a2, a3, a4, a5, a6, a7, rfl, q⟩ := hu
    refine br_f (by decide) (wk_has hc q (pg_m_pm hk hk) (fun _ u hu => ?_) (fun z => absurd (hG.2.2.1 _ _ gk gk) z))
    obtain ⟨b0, s0, w0, o0, e0, a2, a3, a4, a5, a6, a7, rfl, q⟩ := hu
    refine br_f (by decide) (wk_has hc q (pg_i_pm hk) (fun _ u hu => ?_) (fun z => absurd (hG.2.2.2 _ gk) z))
    obtain ⟨b0, s0, w0, o0, e0, a2, a3, a4, a5, a6, a7, rfl, q⟩ := hu
    exact br_f (by decide) (la_369 hc hk)
  · obtain ⟨b0, s0, w0, o0, e0, a2, a3, a4, a5, a6, a7, rfl, q⟩ := hu
    exact br_t rfl (la_369 hc hk)
theorem la_86 (x : Int32) : ∃ j : Nat, j < 6 ∧ (x &&& 7) - (x &&& 7) / 6 * 6 = nI j := by
  obtain ⟨j, hj, e⟩ := pk_andE x (m := 7) 3 (by decide)
  refine ⟨j % 6, Nat.mod_lt _ (by omega), ?_⟩
  rw [e]
  exact pk_rem (d := 6) (by omega) (by omega) (by omega)
theorem la_178 {x2 x3 : Int32} (hc : gn_ok c a1) : ∀ (f i : Nat) (b0 s0 w0 o0 e0 : Int32) (a2 a3 a4 a5 a6 a7 : Nat → Int32), i + f = 64 → (b0 = 0 ∨ (b0 = 1 ∧ ch_on c a1 a2 a3)) →
    wL_law_178 (fun r => r = 1) L xs x2 x3 (nI (cn_ct (gp_gen (gn_S c a1)))) (nI (cn_ct (gl_Z (gn_S c a1)))) (nI (cn_ct (gl_N (gn_S c a1)))) kc ks (f + 1) (nI i) (nI c) b0 s0 w0 o0 e0 a1 a2 a3 a4 a5 a6 a7 := by
  have hG := gn_sg hc
  intro f
  induction f with
  | zero =>
    intro i b0 s0 w0 o0 e0 a2 a3 a4 a5 a6 a7 hi hb
    obtain ⟨j1, l1, q1⟩ := la_86 x2
    obtain ⟨j2, l2, q2⟩ := la_86 (x2 >>> ((3 : Int32) &&& 31))
    obtain ⟨j3, l3, q3⟩ := la_86 (x2 >>> ((6 : Int32) &&& 31))
    obtain ⟨j4, l4, q4⟩ := la_86 (x2 >>> ((9 : Int32) &&& 31))
    refine pk_le 64 i (fun _ => ⟨by decide, by decide, ?_⟩) (fun z => absurd z (by omega))
    rw [q1, q2, q3, q4]
    refine wk_carrier hc hb l1 l2 (fun r1 u hu g1 => ?_)
    obtain ⟨b0, s0, w0, o0, e0, a2, a3, a4, a5, a6, a7, rfl, q⟩ := hu
    refine ⟨by decide, by decide, wk_carrier hc q l3 l4 (fun r2 u hu g2 => ?_)⟩
    obtain ⟨b0, s0, w0, o0, e0, a2, a3, a4, a5, a6, a7, rfl, q⟩ := hu
    refine wk_permutation (fun k hk => br_c (fun _ => la_322 hc q hk) (fun n1 => br_c (fun _ => la_322 hc q hk) (fun n2 => ?_)))
    obtain ⟨g, hg, rfl⟩ := g1.resolve_left n1
    obtain ⟨h, hh, rfl⟩ := g2.resolve_left n2
    have pg := hG.1 g hg
    have ph := hG.1 h hh
    refine wk_product pg ph (wk_inverse pg (wk_has hc q pg (fun _ u hu => ?_) (fun z => absurd hg z)))
    obtain ⟨b0, s0, w0, o0, e0, a2, a3, a4, a5, a6, a7, rfl, q⟩ := hu
    refine br_f (by decide) (wk_has hc q (pg_m_pm pg ph) (fun _ u hu => ?_) (fun z => absurd (hG.2.2.1 _ _ hg hh) z))
    obtain ⟨b0, s0, w0, o0, e0, a2, a3, a4, a5, a6, a7, rfl, q⟩ := hu
    refine br_f (by decide) (wk_has hc q (pg_i_pm pg) (fun _ u hu => ?_) (fun z => absurd (hG.2.2.2 _ hg) z))
    obtain ⟨b0, s0, w0, o0, e0, a2, a3, a4, a5, a6, a7, rfl, q⟩ := hu
    exact br_f (by decide) (la_322 hc q hk)
  | succ f ih =>
    intro i b0 s0 w0 o0 e0 a2 a3 a4 a5 a6 a7 hi hb
    refine pk_le 64 i (fun z => absurd z (by omega)) (fun _ => wk_images (by omega) hc hb (fun u hu => ?_))
    obtain ⟨b0, s0, w0, o0, e0, a2, a3, a4, a5, a6, a7, rfl, q⟩ := hu
    refine wk_keeping (by omega) hc q (fun u hu => ?_)
    obtain ⟨b0, s0, w0, o0, e0, a2, a3, a4, a5, a6, a7, rfl, q⟩ := hu
    refine br_t ?_ (nm_r (nI_1 i) (ih (i + 1) b0 s0 w0 o0 e0 a2 a3 a4 a5 a6 a7 (by omega) q))
    rw [pk_mul, Nat.div_mul_cancel (gl_keep hG _).2]
theorem la_133 {x2 x3 : Int32} (hc : gn_ok c a1) : ∀ (f i : Nat) (b0 s0 w0 o0 e0 : Int32) (a2 a3 a4 a5 a6 a7 : Nat → Int32), i + f = 6 → (b0 = 0 ∨ (b0 = 1 ∧ ch_on c a1 a2 a3)) →
    wL_law_133 (fun r => r = 1) L xs x2 x3 (nI (cn_ct (gp_gen (gn_S c a1)))) (nI (cn_ct (gl_Z (gn_S c a1)))) (nI (cn_ct (gl_N (gn_S c a1)))) kc ks (f + 1) (nI i) (nI c) b0 s0 w0 o0 e0 a1 a2 a3 a4 a5 a6 a7 := by
  have hG := gn_sg hc
  intro f
  induction f with
  | zero =>
    intro i b0 s0 w0 o0 e0 a2 a3 a4 a5 a6 a7 hi hb
    exact pk_le 6 i (fun _ => ⟨65, la_178 hc 64 0 b0 s0 w0 o0 e0 a2 a3 a4 a5 a6 a7 (by omega) hb⟩) (fun z => absurd z (by omega))
  | succ f ih =>
    intro i b0 s0 w0 o0 e0 a2 a3 a4 a5 a6 a7 hi hb
    have hx : i < 6 := by omega
    refine pk_le 6 i (fun z => absurd z (by omega)) (fun _ => wk_orbit hc hx (fun B hB e => ?_))
    rw [wk_pow (show i < 31 by omega)]
    refine wk_fixing hx hc hb (fun u hu => ?_)
    obtain ⟨b0, s0, w0, o0, e0, a2, a3, a4, a5, a6, a7, rfl, q⟩ := hu
    refine wk_bits hB (br_t ?_ (nm_r (nI_1 i) (ih (i + 1) b0 s0 w0 o0 e0 a2 a3 a4 a5 a6 a7 (by omega) q)))
    rw [pk_mul, cn_nb_congr 6 e, ← gl_os hG hx]
theorem la_113 {x2 x3 z0 : Int32} (hc : gn_ok c a1) (hb : b0 = 0 ∨ (b0 = 1 ∧ ch_on c a1 a2 a3))
    (hz : (z0 = 1 ∧ cn_ct (gl_Z (gn_S c a1)) = cn_ct (gp_gen (gn_S c a1))) ∨ (z0 = 0 ∧ ¬ cn_ct (gl_Z (gn_S c a1)) = cn_ct (gp_gen (gn_S c a1)))) :
    wL_law_113 (fun r => r = 1) L xs x2 x3 (nI (cn_ct (gp_gen (gn_S c a1)))) (nI (cn_ct (gl_Z (gn_S c a1)))) (nI (cn_ct (gl_N (gn_S c a1)))) z0 kc ks (nI c) b0 s0 w0 o0 e0 a1 a2 a3 a4 a5 a6 a7 := by
  have SP := gn_pm hc
  have hG := gn_sg hc
  have g0 := (gl_720 hG).1
  have g7 := cn_720 (gp_gen (gn_S c a1))
  have n7 := cn_720 (gl_N (gn_S c a1))
  have ce := gl_centre SP
  have rest : (¬ nI (cn_ct (gp_gen (gn_S c a1))) = 0 ∧ ((nI (cn_ct (gl_N (gn_S c a1))) - nI (cn_ct (gl_N (gn_S c a1))) / nI (cn_ct (gp_gen (gn_S c a1))) * nI (cn_ct (gp_gen (gn_S c a1)))) = 0 → (∃ fu133 : Nat, wL_law_133 (fun r => r = 1) L xs x2 x3 (nI (cn_ct (gp_gen (gn_S c a1)))) (nI (cn_ct (gl_Z (gn_S c a1)))) (nI (cn_ct (gl_N (gn_S c a1)))) kc ks fu133 0 (nI c) b0 s0 w0 o0 e0 a1 a2 a3 a4 a5 a6 a7)) ∧ (¬ (nI (cn_ct (gl_N (gn_S c a1))) - nI (cn_ct (gl_N (gn_S c a1))) / nI (cn_ct (gp_gen (gn_S c a1))) * nI (cn_ct (gp_gen (gn_S c a1)))) = 0 → ((0 : Int32) = 1))) := by
    refine ⟨nI_ne0 g0 (by omega), br_t ?_ ⟨7, la_133 hc 6 0 b0 s0 w0 o0 e0 a2 a3 a4 a5 a6 a7 (by omega) hb⟩⟩
    rw [pk_rem (by omega) g0 (by omega), Nat.mod_eq_zero_of_dvd (gl_norm SP)]
    rfl
  unfold wL_law_113
  refine wk_commutative hc (fun z => ?_) (fun z => ?_)
  · rcases hz with ⟨w, _⟩ | ⟨_, w⟩
    · exact br_t w rest
    · exact absurd (ce.mpr z) w
  · rcases hz with ⟨_, w⟩ | ⟨w, _⟩
    · exact absurd (ce.mp w) z
    · exact br_t w rest
theorem la_38 {x2 x3 : Int32} (hL : L ≤ 260) : ∀ (f k c : Nat) (b0 s0 w0 o0 e0 : Int32) (a1 a2 a3 a4 a5 a6 a7 : Nat → Int32), L ≤ k + 1 + f → k ≤ 300 → gn_ok c a1 → (b0 = 0 ∨ (b0 = 1 ∧ ch_on c a1 a2 a3)) →
    wL_law_38 (fun r => r = 1) L xs x2 x3 kc ks (f + 1) (nI k) (nI c) b0 s0 w0 o0 e0 a1 a2 a3 a4 a5 a6 a7 := by
  have fin : ∀ (c : Nat) (b0 s0 w0 o0 e0 : Int32) (a1 a2 a3 a4 a5 a6 a7 : Nat → Int32) (n k : Nat), L ≤ k + 1 → k ≤ 300 → gn_ok c a1 → (b0 = 0 ∨ (b0 = 1 ∧ ch_on c a1 a2 a3)) →
      wL_law_38 (fun r => r = 1) L xs x2 x3 kc ks (n + 1) (nI k) (nI c) b0 s0 w0 o0 e0 a1 a2 a3 a4 a5 a6 a7 := by
    intro c b0 s0 w0 o0 e0 a1 a2 a3 a4 a5 a6 a7 n k hk hk3 hc hb
    have hG := gn_sg hc
    have g0 := gl_720 hG
    have g7 := cn_720 (gp_gen (gn_S c a1))
    have z7 := cn_720 (gl_Z (gn_S c a1))
    refine pk_le L (k + 1) (fun _ => wk_order hc hb (fun s0 d2 d3 d4 d5 on => wk_centre hc (Or.inr ⟨rfl, on⟩) (fun u hu => ?_))) (fun z => absurd z (by omega)) rfl (nI_1 k)
    obtain ⟨b0, s0, w0, o0, e0, a2, a3, a4, a5, a6, a7, rfl, q⟩ := hu
    refine wk_normaliser hc q (fun u hu => ?_)
    obtain ⟨b0, s0, w0, o0, e0, a2, a3, a4, a5, a6, a7, rfl, q⟩ := hu
    refine br_f (nI_nlt (b := 1) g0.1 (by omega)) ⟨nI_ne0 g0.1 (by omega), br_t ?_ (pk_eq _ _ (fun z => la_113 hc q (Or.inl ⟨rfl, z⟩)) (fun z => la_113 hc q (Or.inr ⟨rfl, z⟩)) rfl rfl (by omega) (by omega))⟩
    have e := pk_rem (a := 720) (d := cn_ct (gp_gen (gn_S c a1))) (by omega) g0.1 (by omega)
    rw [Nat.mod_eq_zero_of_dvd g0.2] at e
    exact e
  intro f
  induction f with
  | zero =>
    intro k c b0 s0 w0 o0 e0 a1 a2 a3 a4 a5 a6 a7 hk hk3 hc hb
    exact fin c b0 s0 w0 o0 e0 a1 a2 a3 a4 a5 a6 a7 0 k (by omega) hk3 hc hb
  | succ f ih =>
    intro k c b0 s0 w0 o0 e0 a1 a2 a3 a4 a5 a6 a7 hk hk3 hc hb
    by_cases hx : L ≤ k + 1
    · exact fin c b0 s0 w0 o0 e0 a1 a2 a3 a4 a5 a6 a7 (f + 1) k hx hk3 hc hb
    · refine pk_le L (k + 1) (fun z => absurd z hx) (fun _ => ⟨pk_in k L (by omega), pk_in (k + 1) L (by omega) (nI_1 k), wk_turn hc hb (fun r u hu => ?_)⟩) rfl (nI_1 k)
      obtain ⟨c', b1, h1, b0, s0, w0, o0, e0, a2, a3, a4, a5, a6, a7, rfl, q⟩ := hu
      exact nm_r (nI_add k 2) (ih (k + 2) c' b0 s0 w0 o0 e0 b1 a2 a3 a4 a5 a6 a7 (by omega) (by omega) h1 q)
end
theorem la_20 (xs : Nat → Int32) (L : Nat) (hL : L ≤ 260) (z0 : Int32) (kc ks : Nat) :
    wL_law_20 (fun r => r = 1) L xs z0 kc ks 0 0 0 0 0 0 (fun _ => 0) (fun _ => 0) (fun _ => 0) (fun _ => 0) (fun _ => 0) (fun _ => 0) (fun _ => 0) := by
  have h0 : gn_ok 0 (fun _ => 0) := ⟨by omega, fun k hk => absurd hk (by omega)⟩
  unfold wL_law_20
  refine pk_le L 1 (fun _ => ⟨261, la_38 hL 260 2 0 0 0 0 0 0 _ _ _ _ _ _ _ (by omega) (by omega) h0 (Or.inl rfl)⟩) (fun z => ⟨pk_in 1 L z, nm_e ⟨261, la_38 hL 260 2 0 0 0 0 0 0 _ _ _ _ _ _ _ (by omega) (by omega) h0 (Or.inl rfl)⟩⟩)
theorem i_vc (xs : Nat → Int32) (L : Nat) (hL : L ≤ 260) : wpL_law (fun r => r = 1) L xs := by
  unfold wpL_law
  refine ⟨7, 171, by omega, by omega, ?_⟩
  unfold wpX_init
  refine ⟨by omega, by omega, by omega, by omega, by omega, by omega, by omega, by omega, by omega, by omega, by omega, by omega, by omega, by omega, ?_⟩
  exact pk_le L 0 (fun _ => la_20 xs L hL 0 _ _) (fun z => ⟨pk_in 0 L z, la_20 xs L hL _ _ _⟩)
end
