section
/-! The machine, in plain Lean: a rule is a number ρ (kind, x, y, left, right: its bits); a memory is (before, held, handed). -/
abbrev qc_Mem : Type := Nat × Nat × Nat
def qc_k (ρ : Nat) : Nat := ρ % 4
def qc_x (ρ : Nat) : Nat := ρ / 4 % 4
def qc_y (ρ : Nat) : Nat := ρ / 16 % 4
def qc_l (ρ : Nat) : Nat := ρ / 64 % 32
def qc_r (ρ : Nat) : Nat := ρ / 2048 % 32
def qc_al (s y : Nat) : Bool := s / 2 ^ y % 2 == 1
/-- both sides allow -/
def qc_ab (ρ b y : Nat) : Bool := qc_al (qc_l ρ) b && qc_al (qc_r ρ) y
/-- what a rule hands on when y comes (no limit yet) -/
def qc_e (ρ b h y : Nat) : List Nat :=
  if qc_k ρ = 2 then (if qc_ab ρ b y = true then [qc_y ρ] else []) ++ (if y = 4 then [] else [y])
  else if h = 5 then []
  else if h = qc_x ρ ∧ qc_ab ρ b y = true then (if qc_k ρ = 0 then [qc_y ρ] else [])
  else [h]
def qc_b (ρ b h y : Nat) : Nat := if qc_k ρ = 2 then y else if h = 5 then b else h
def qc_h (ρ h y : Nat) : Nat := if qc_k ρ = 2 then h else if y = 4 then 5 else y
/-- what it hands on, at most 12 in all -/
def qc_o (ρ : Nat) (m : qc_Mem) (y : Nat) : List Nat := (qc_e ρ m.1 m.2.1 y).take (12 - m.2.2)
def qc_m (ρ : Nat) (m : qc_Mem) (y : Nat) : qc_Mem := (qc_b ρ m.1 m.2.1 y, qc_h ρ m.2.1 y, m.2.2 + (qc_o ρ m y).length)
def qc_os (ρ : Nat) : qc_Mem → List Nat → List Nat
  | _, [] => []
  | m, y :: ys => qc_o ρ m y ++ qc_os ρ (qc_m ρ m y) ys
def qc_ms (ρ : Nat) : qc_Mem → List Nat → qc_Mem
  | m, [] => m
  | m, y :: ys => qc_ms ρ (qc_m ρ m y) ys
theorem qc_os_nil (ρ : Nat) (m : qc_Mem) : qc_os ρ m [] = [] := rfl
theorem qc_os_cons (ρ : Nat) (m : qc_Mem) (y : Nat) (ys : List Nat) : qc_os ρ m (y :: ys) = qc_o ρ m y ++ qc_os ρ (qc_m ρ m y) ys := rfl
theorem qc_ms_nil (ρ : Nat) (m : qc_Mem) : qc_ms ρ m [] = m := rfl
theorem qc_ms_cons (ρ : Nat) (m : qc_Mem) (y : Nat) (ys : List Nat) : qc_ms ρ m (y :: ys) = qc_ms ρ (qc_m ρ m y) ys := rfl
theorem qc_os_app (ρ : Nat) (b : List Nat) : ∀ (a : List Nat) (m : qc_Mem), qc_os ρ m (a ++ b) = qc_os ρ m a ++ qc_os ρ (qc_ms ρ m a) b := by
  intro a
  induction a with
  | nil => intro m; rfl
  | cons y ys ih =>
    intro m
    rw [List.cons_append, qc_os_cons, qc_os_cons, qc_ms_cons, ih, List.append_assoc]
theorem qc_ms_app (ρ : Nat) (b : List Nat) : ∀ (a : List Nat) (m : qc_Mem), qc_ms ρ m (a ++ b) = qc_ms ρ (qc_ms ρ m a) b := by
  intro a
  induction a with
  | nil => intro m; rfl
  | cons y ys ih =>
    intro m
    rw [List.cons_append, qc_ms_cons, qc_ms_cons, ih]
theorem qc_cnt (ρ : Nat) : ∀ (ys : List Nat) (m : qc_Mem), (qc_ms ρ m ys).2.2 = m.2.2 + (qc_os ρ m ys).length := by
  intro ys
  induction ys with
  | nil => intro m; rfl
  | cons y ys ih =>
    intro m
    rw [qc_ms_cons, qc_os_cons, ih, List.length_append]
    show m.2.2 + (qc_o ρ m y).length + _ = _
    omega
def qc_V (m : qc_Mem) : Prop := m.1 ≤ 4 ∧ m.2.1 ≤ 5 ∧ m.2.1 ≠ 4 ∧ m.2.2 ≤ 12
theorem qc_o_len (ρ : Nat) (m : qc_Mem) (y : Nat) : (qc_o ρ m y).length ≤ 12 - m.2.2 := List.length_take_le _ _
theorem qc_e_len (ρ b h y : Nat) : (qc_e ρ b h y).length ≤ 2 := by
  unfold qc_e
  repeat' split
  all_goals simp
theorem qc_o_len2 (ρ : Nat) (m : qc_Mem) (y : Nat) : (qc_o ρ m y).length ≤ 2 := Nat.le_trans (List.length_take_le' _ _) (qc_e_len _ _ _ _)
theorem qc_V_m {ρ y : Nat} {m : qc_Mem} (h : qc_V m) (hy : y ≤ 4) : qc_V (qc_m ρ m y) := by
  obtain ⟨h1, h2, h3, h4⟩ := h
  have hl := qc_o_len ρ m y
  refine ⟨?_, ?_, ?_, ?_⟩
  · show qc_b ρ m.1 m.2.1 y ≤ 4
    unfold qc_b
    repeat' split
    all_goals omega
  · show qc_h ρ m.2.1 y ≤ 5
    unfold qc_h
    repeat' split
    all_goals omega
  · show qc_h ρ m.2.1 y ≠ 4
    unfold qc_h
    repeat' split
    all_goals omega
  · show m.2.2 + (qc_o ρ m y).length ≤ 12
    omega
theorem qc_y_lt (ρ : Nat) : qc_y ρ < 4 := Nat.mod_lt _ (by decide)
theorem qc_e_lt {ρ b h y : Nat} (h2 : h ≤ 5) (h3 : h ≠ 4) (hy : y ≤ 4) : ∀ v, v ∈ qc_e ρ b h y → v < 4 := by
  intro v hv
  have hq := qc_y_lt ρ
  unfold qc_e at hv
  repeat' split at hv
  all_goals simp at hv
  all_goals omega
theorem qc_o_lt {ρ y : Nat} {m : qc_Mem} (h : qc_V m) (hy : y ≤ 4) : ∀ v, v ∈ qc_o ρ m y → v < 4 := by
  intro v hv
  exact qc_e_lt h.2.1 h.2.2.1 hy v (List.mem_of_mem_take hv)
theorem qc_os_lt {ρ : Nat} : ∀ (ys : List Nat) (m : qc_Mem), qc_V m → (∀ v, v ∈ ys → v ≤ 4) → ∀ v, v ∈ qc_os ρ m ys → v < 4 := by
  intro ys
  induction ys with
  | nil => intro m _ _ v hv; rw [qc_os_nil] at hv; exact absurd hv (List.not_mem_nil)
  | cons y ys ih =>
    intro m hm hy v hv
    rw [qc_os_cons, List.mem_append] at hv
    rcases hv with z | z
    · exact qc_o_lt hm (hy y List.mem_cons_self) v z
    · exact ih _ (qc_V_m hm (hy y List.mem_cons_self)) (fun w hw => hy w (List.mem_cons_of_mem _ hw)) v z
theorem qc_V_ms {ρ : Nat} : ∀ (ys : List Nat) (m : qc_Mem), qc_V m → (∀ v, v ∈ ys → v ≤ 4) → qc_V (qc_ms ρ m ys) := by
  intro ys
  induction ys with
  | nil => intro m h _; exact h
  | cons y ys ih =>
    intro m hm hy
    rw [qc_ms_cons]
    exact ih _ (qc_V_m hm (hy y List.mem_cons_self)) (fun w hw => hy w (List.mem_cons_of_mem _ hw))
/-- the letters that come to rule s: p goes in in front, each rule's own end e behind -/
def qc_fl (ρ : Nat → Nat) (m : Nat → qc_Mem) (e p : List Nat) : Nat → List Nat
  | 0 => p
  | s + 1 => qc_os (ρ s) (m s) (qc_fl ρ m e p s ++ e)
def qc_fm (ρ : Nat → Nat) (m : Nat → qc_Mem) (e p : List Nat) (s : Nat) : qc_Mem := qc_ms (ρ s) (m s) (qc_fl ρ m e p s ++ e)
theorem qc_fl_0 (ρ : Nat → Nat) (m : Nat → qc_Mem) (e p : List Nat) : qc_fl ρ m e p 0 = p := rfl
theorem qc_fl_s (ρ : Nat → Nat) (m : Nat → qc_Mem) (e p : List Nat) (s : Nat) : qc_fl ρ m e p (s + 1) = qc_os (ρ s) (m s) (qc_fl ρ m e p s ++ e) := rfl
theorem qc_fm_d (ρ : Nat → Nat) (m : Nat → qc_Mem) (e p : List Nat) (s : Nat) : qc_fm ρ m e p s = qc_ms (ρ s) (m s) (qc_fl ρ m e p s ++ e) := rfl
theorem qc_fl_app (ρ : Nat → Nat) (m : Nat → qc_Mem) (e p q : List Nat) : ∀ s, qc_fl ρ m e (p ++ q) s = qc_fl ρ m [] p s ++ qc_fl ρ (qc_fm ρ m [] p) e q s := by
  intro s
  induction s with
  | zero => rfl
  | succ s ih => rw [qc_fl_s ρ m e (p ++ q), ih, qc_fl_s ρ m [] p, qc_fl_s ρ (qc_fm ρ m [] p) e q, List.append_assoc, qc_os_app, qc_fm_d ρ m [] p s, List.append_nil]
theorem qc_fm_app (ρ : Nat → Nat) (m : Nat → qc_Mem) (e p q : List Nat) (s : Nat) : qc_fm ρ (qc_fm ρ m [] p) e q s = qc_fm ρ m e (p ++ q) s := by
  rw [qc_fm_d ρ (qc_fm ρ m [] p) e q s, qc_fm_d ρ m e (p ++ q) s, qc_fl_app, List.append_assoc, qc_ms_app (ρ s) (qc_fl ρ (qc_fm ρ m [] p) e q s ++ e), qc_fm_d ρ m [] p s, List.append_nil]
theorem qc_fl_lt {ρ : Nat → Nat} {m : Nat → qc_Mem} {e p : List Nat} (hm : ∀ s, qc_V (m s)) (he : ∀ v, v ∈ e → v ≤ 4) (hp : ∀ v, v ∈ p → v < 4) : ∀ s, ∀ v, v ∈ qc_fl ρ m e p s → v < 4 := by
  intro s
  induction s with
  | zero => exact hp
  | succ s ih =>
    intro v hv
    rw [qc_fl_s] at hv
    refine qc_os_lt _ _ (hm s) (fun w hw => ?_) v hv
    rcases List.mem_append.mp hw with z | z
    · exact Nat.le_of_lt (ih w z)
    · exact he w z
theorem qc_fm_V {ρ : Nat → Nat} {m : Nat → qc_Mem} {e p : List Nat} (hm : ∀ s, qc_V (m s)) (he : ∀ v, v ∈ e → v ≤ 4) (hp : ∀ v, v ∈ p → v < 4) (s : Nat) : qc_V (qc_fm ρ m e p s) := by
  rw [qc_fm_d]
  refine qc_V_ms _ _ (hm s) (fun w hw => ?_)
  rcases List.mem_append.mp hw with z | z
  · exact Nat.le_of_lt (qc_fl_lt hm he hp s w z)
  · exact he w z
theorem qc_os_len {ρ : Nat} {m : qc_Mem} {ys : List Nat} (hm : qc_V m) (hy : ∀ v, v ∈ ys → v ≤ 4) : m.2.2 + (qc_os ρ m ys).length ≤ 12 := by
  rw [← qc_cnt]
  exact (qc_V_ms ys m hm hy).2.2.2
theorem qc_fl_len {ρ : Nat → Nat} {m : Nat → qc_Mem} {e p : List Nat} (hm : ∀ s, qc_V (m s)) (he : ∀ v, v ∈ e → v ≤ 4) (hp : ∀ v, v ∈ p → v < 4) (hl : p.length ≤ 12) : ∀ s, (qc_fl ρ m e p s).length ≤ 12 := by
  intro s
  cases s with
  | zero => exact hl
  | succ s =>
    rw [qc_fl_s]
    have := qc_os_len (ρ := ρ s) (ys := qc_fl ρ m e p s ++ e) (hm s) (fun w hw => by
      rcases List.mem_append.mp hw with z | z
      · exact Nat.le_of_lt (qc_fl_lt hm he hp s w z)
      · exact he w z)
    omega
/-- only the first k memories count -/
theorem qc_fl_cong {ρ ρ' : Nat → Nat} {m m' : Nat → qc_Mem} {e p : List Nat} {k : Nat} (hr : ∀ s, s < k → ρ s = ρ' s) (h : ∀ s, s < k → m s = m' s) : ∀ s, s ≤ k → qc_fl ρ m e p s = qc_fl ρ' m' e p s := by
  intro s
  induction s with
  | zero => intro _; rfl
  | succ s ih =>
    intro hs
    rw [qc_fl_s, qc_fl_s, ih (by omega), h s (by omega), hr s (by omega)]
def qc_z : Nat → qc_Mem := fun _ => (4, 5, 0)
theorem qc_z_V (s : Nat) : qc_V (qc_z s) := ⟨(by decide : 4 ≤ 4), (by decide : 5 ≤ 5), (by decide : 5 ≠ 4), (by decide : 0 ≤ 12)⟩
/-- one rule over a whole word -/
def qc_B (ρ : Nat) (p : List Nat) : List Nat := qc_os ρ (4, 5, 0) (p ++ [4])
theorem qc_fl_B (ρ : Nat → Nat) (p : List Nat) (s : Nat) : qc_fl ρ qc_z [4] p (s + 1) = qc_B (ρ s) (qc_fl ρ qc_z [4] p s) := rfl
theorem qc_4 : ∀ v, v ∈ ([4] : List Nat) → v ≤ 4 := by
  intro v hv
  rw [List.mem_singleton] at hv
  omega
theorem qc_0 : ∀ v, v ∈ ([] : List Nat) → v ≤ 4 := fun v hv => absurd hv List.not_mem_nil
theorem qc_B_lt {ρ : Nat} {p : List Nat} (hp : ∀ v, v ∈ p → v < 4) : ∀ v, v ∈ qc_B ρ p → v < 4 :=
  qc_fl_lt (ρ := fun _ => ρ) qc_z_V qc_4 hp 1
theorem qc_B_len {ρ : Nat} {p : List Nat} (hp : ∀ v, v ∈ p → v < 4) : (qc_B ρ p).length ≤ 12 := by
  have := qc_os_len (ρ := ρ) (m := (4, 5, 0)) (ys := p ++ [4]) (qc_z_V 0) (fun w hw => by
    rcases List.mem_append.mp hw with z | z
    · exact Nat.le_of_lt (hp w z)
    · exact qc_4 w z)
  unfold qc_B
  omega
end
section
/-! Words as numbers; the law's own way to make a word out of a word. -/
theorem qc_snoc {P : List Nat → Prop} (h0 : P []) (hs : ∀ l d, P l → P (l ++ [d])) : ∀ l, P l := by
  intro l
  rw [← List.reverse_reverse l]
  induction l.reverse with
  | nil => exact h0
  | cons x xs ih => rw [List.reverse_cons]; exact hs _ _ ih
def qc_enc (p : List Nat) : Nat := p.foldl (fun c d => 4 * c + d) 1
theorem qc_enc_0 : qc_enc [] = 1 := rfl
theorem qc_enc_s (p : List Nat) (d : Nat) : qc_enc (p ++ [d]) = 4 * qc_enc p + d := by
  unfold qc_enc
  rw [List.foldl_append]
  rfl
/-- n digits of w, the first one the highest -/
def qc_dg : Nat → Nat → List Nat
  | 0, _ => []
  | n + 1, w => qc_dg n (w / 4) ++ [w % 4]
theorem qc_dg_0 (w : Nat) : qc_dg 0 w = [] := rfl
theorem qc_dg_s (n w : Nat) : qc_dg (n + 1) w = qc_dg n (w / 4) ++ [w % 4] := rfl
theorem qc_dg_len : ∀ n w, (qc_dg n w).length = n := by
  intro n
  induction n with
  | zero => intro w; rfl
  | succ n ih => intro w; rw [qc_dg_s, List.length_append, ih]; rfl
theorem qc_dg_lt : ∀ n w, ∀ v, v ∈ qc_dg n w → v < 4 := by
  intro n
  induction n with
  | zero => intro w v hv; exact absurd hv List.not_mem_nil
  | succ n ih =>
    intro w v hv
    rw [qc_dg_s, List.mem_append] at hv
    rcases hv with z | z
    · exact ih _ v z
    · rw [List.mem_singleton] at z; omega
theorem qc_pow4 (n : Nat) : 4 ^ (n + 1) = 4 * 4 ^ n := by rw [Nat.pow_succ, Nat.mul_comm]
theorem qc_enc_dg : ∀ n w, w < 4 ^ n → qc_enc (qc_dg n w) = 4 ^ n + w := by
  intro n
  induction n with
  | zero => intro w hw; rw [qc_dg_0, qc_enc_0]; simp at hw ⊢; omega
  | succ n ih =>
    intro w hw
    rw [qc_pow4] at hw ⊢
    rw [qc_dg_s, qc_enc_s, ih (w / 4) (by omega)]
    omega
theorem qc_dg_cons : ∀ n l w, l < 4 → w < 4 ^ n → qc_dg (n + 1) (l * 4 ^ n + w) = l :: qc_dg n w := by
  intro n
  induction n with
  | zero =>
    intro l w hl hw
    simp at hw
    subst hw
    rw [qc_dg_s, qc_dg_0, qc_dg_0]
    simp
    omega
  | succ n ih =>
    intro l w hl hw
    rw [qc_dg_s, qc_dg_s n w]
    have e : l * 4 ^ (n + 1) = 4 * (l * 4 ^ n) := by rw [qc_pow4]; exact Nat.mul_left_comm l 4 (4 ^ n)
    rw [e]
    rw [qc_pow4] at hw
    rw [show (4 * (l * 4 ^ n) + w) / 4 = l * 4 ^ n + w / 4 by omega, show (4 * (l * 4 ^ n) + w) % 4 = w % 4 by omega, ih l (w / 4) hl (by omega)]
    rfl
theorem qc_enc_lo (p : List Nat) : 4 ^ p.length ≤ qc_enc p := by
  refine qc_snoc (P := fun p => 4 ^ p.length ≤ qc_enc p) (Nat.le_refl 1) (fun l d ih => ?_) p
  rw [List.length_append, qc_enc_s]
  show 4 ^ (l.length + 1) ≤ _
  rw [qc_pow4]
  have : 4 ^ l.length ≤ qc_enc l := ih
  omega
theorem qc_enc_hi {p : List Nat} (h : ∀ v, v ∈ p → v < 4) : qc_enc p < 2 * 4 ^ p.length := by
  refine qc_snoc (P := fun p => (∀ v, v ∈ p → v < 4) → qc_enc p < 2 * 4 ^ p.length) (fun _ => by decide) (fun l d ih h => ?_) p h
  rw [List.length_append, qc_enc_s]
  show _ < 2 * 4 ^ (l.length + 1)
  rw [qc_pow4]
  have h1 := ih (fun v hv => h v (List.mem_append_left _ hv))
  have h2 := h d (List.mem_append_right _ (List.mem_singleton.mpr rfl))
  omega
theorem qc_dg_enc {p : List Nat} (h : ∀ v, v ∈ p → v < 4) : qc_dg p.length (qc_enc p) = p := by
  refine qc_snoc (P := fun p => (∀ v, v ∈ p → v < 4) → qc_dg p.length (qc_enc p) = p) (fun _ => rfl) (fun l d ih h => ?_) p h
  have h1 := ih (fun v hv => h v (List.mem_append_left _ hv))
  have h2 := h d (List.mem_append_right _ (List.mem_singleton.mpr rfl))
  rw [List.length_append, qc_enc_s]
  show qc_dg (l.length + 1) _ = _
  rw [qc_dg_s, show (4 * qc_enc l + d) / 4 = qc_enc l by omega, show (4 * qc_enc l + d) % 4 = d by omega, h1]
theorem qc_pow_inj {a b : Nat} (h : 4 ^ a < 2 * 4 ^ b) : a ≤ b := by
  rcases Nat.lt_or_ge b a with z | z
  · have : 4 ^ (b + 1) ≤ 4 ^ a := Nat.pow_le_pow_right (by decide) z
    rw [qc_pow4] at this
    have := Nat.pow_pos (n := b) (show 0 < 4 by decide)
    omega
  · exact z
theorem qc_enc_len {p q : List Nat} (hp : ∀ v, v ∈ p → v < 4) (hq : ∀ v, v ∈ q → v < 4) (h : qc_enc p = qc_enc q) : p.length = q.length := by
  have a1 := qc_enc_lo p
  have a2 := qc_enc_hi hp
  have b1 := qc_enc_lo q
  have b2 := qc_enc_hi hq
  exact Nat.le_antisymm (qc_pow_inj (by omega)) (qc_pow_inj (by omega))
theorem qc_enc_inj {p q : List Nat} (hp : ∀ v, v ∈ p → v < 4) (hq : ∀ v, v ∈ q → v < 4) (h : qc_enc p = qc_enc q) : p = q := by
  rw [← qc_dg_enc hp, ← qc_dg_enc hq, qc_enc_len hp hq h, h]
theorem qc_enc_div : ∀ (b a : List Nat), (∀ v, v ∈ b → v < 4) → qc_enc (a ++ b) / 4 ^ b.length = qc_enc a := by
  intro b
  induction b with
  | nil => intro a _; rw [List.append_nil]; exact Nat.div_one _
  | cons d b ih =>
    intro a h
    have h2 := h d List.mem_cons_self
    rw [show a ++ d :: b = (a ++ [d]) ++ b by simp, List.length_cons, Nat.pow_succ, ← Nat.div_div_eq_div_mul, ih (a ++ [d]) (fun v hv => h v (List.mem_cons_of_mem _ hv)), qc_enc_s]
    omega
theorem qc_enc_bound {p : List Nat} (h : ∀ v, v ∈ p → v < 4) (hl : p.length ≤ 12) : qc_enc p < 2 ^ 25 := by
  have a := qc_enc_hi h
  have b : 4 ^ p.length ≤ 4 ^ 12 := Nat.pow_le_pow_right (by decide) hl
  have : (4 : Nat) ^ 12 = 2 ^ 24 := by decide
  omega
theorem qc_enc_pos (p : List Nat) : 1 ≤ qc_enc p := Nat.le_trans (Nat.pow_pos (by decide)) (qc_enc_lo p)
/-- the i-th letter out of the number -/
theorem qc_enc_at {p : List Nat} (h : ∀ v, v ∈ p → v < 4) {i : Nat} (hi : i < p.length) : qc_enc p / 4 ^ (p.length - 1 - i) % 4 = p.getD i 4 := by
  have e : p = p.take (i + 1) ++ p.drop (i + 1) := (List.take_append_drop _ _).symm
  have hd := qc_enc_div (p.drop (i + 1)) (p.take (i + 1)) (fun v hv => h v (List.mem_of_mem_drop hv))
  rw [← e, List.length_drop] at hd
  rw [show p.length - 1 - i = p.length - (i + 1) by omega, hd, ← List.take_append_getElem hi, qc_enc_s]
  have : p[i] < 4 := h _ (List.getElem_mem hi)
  rw [List.getD_eq_getElem?_getD, List.getElem?_eq_getElem hi]
  show _ = p[i]
  omega
/-! the law's made -/
def qc_eL (ρ b x y : Nat) : List Nat :=
  (if qc_k ρ = 2 ∧ qc_ab ρ b x = true then [qc_y ρ] else []) ++
  (if x < 4 then (if qc_k ρ < 2 ∧ x = qc_x ρ ∧ qc_ab ρ b y = true then (if qc_k ρ = 0 then [qc_y ρ] else []) else [x]) else [])
def qc_LR (ρ : Nat) : Nat → List Nat → List Nat
  | b, [] => qc_eL ρ b 4 4
  | b, x :: xs => qc_eL ρ b x (xs.headD 4) ++ qc_LR ρ x xs
theorem qc_LR_0 (ρ b : Nat) : qc_LR ρ b [] = qc_eL ρ b 4 4 := rfl
theorem qc_LR_s (ρ b x : Nat) (xs : List Nat) : qc_LR ρ b (x :: xs) = qc_eL ρ b x (xs.headD 4) ++ qc_LR ρ x xs := rfl
def qc_us (ρ : Nat) : Nat → Nat → List Nat → List Nat
  | _, _, [] => []
  | b, h, y :: ys => qc_e ρ b h y ++ qc_us ρ (qc_b ρ b h y) (qc_h ρ h y) ys
theorem qc_us_0 (ρ b h : Nat) : qc_us ρ b h [] = [] := rfl
theorem qc_us_s (ρ b h y : Nat) (ys : List Nat) : qc_us ρ b h (y :: ys) = qc_e ρ b h y ++ qc_us ρ (qc_b ρ b h y) (qc_h ρ h y) ys := rfl
theorem qc_os_us (ρ : Nat) : ∀ (ys : List Nat) (m : qc_Mem), qc_os ρ m ys = (qc_us ρ m.1 m.2.1 ys).take (12 - m.2.2) := by
  intro ys
  induction ys with
  | nil => intro m; rw [qc_os_nil, qc_us_0, List.take_nil]
  | cons y ys ih =>
    intro m
    rw [qc_os_cons, ih, qc_us_s, List.take_append]
    show qc_o ρ m y ++ (qc_us ρ (qc_b ρ m.1 m.2.1 y) (qc_h ρ m.2.1 y) ys).take (12 - (m.2.2 + (qc_o ρ m y).length)) = _
    have : (qc_o ρ m y).length = min (12 - m.2.2) (qc_e ρ m.1 m.2.1 y).length := List.length_take
    rw [this, show 12 - (m.2.2 + min (12 - m.2.2) (qc_e ρ m.1 m.2.1 y).length) = 12 - m.2.2 - (qc_e ρ m.1 m.2.1 y).length by omega]
    rfl
theorem qc_us_2 {ρ : Nat} (hk : qc_k ρ = 2) : ∀ (xs : List Nat) (b h : Nat), (∀ v, v ∈ xs → v < 4) → qc_us ρ b h (xs ++ [4]) = qc_LR ρ b xs := by
  intro xs
  induction xs with
  | nil =>
    intro b h _
    show qc_e ρ b h 4 ++ [] = qc_eL ρ b 4 4
    simp [qc_e, qc_eL, hk]
  | cons x xs ih =>
    intro b h hx
    have hx4 := hx x List.mem_cons_self
    rw [List.cons_append, qc_us_s, qc_LR_s, show qc_b ρ b h x = x by simp [qc_b, hk], ih x _ (fun v hv => hx v (List.mem_cons_of_mem _ hv))]
    have : qc_e ρ b h x = qc_eL ρ b x (xs.headD 4) := by
      have : x ≠ 4 := by omega
      simp [qc_e, qc_eL, hk, hx4, this]
    rw [this]
theorem qc_us_1 {ρ : Nat} (hk : qc_k ρ < 2) : ∀ (xs : List Nat) (b x : Nat), x < 4 → (∀ v, v ∈ xs → v < 4) → qc_us ρ b x (xs ++ [4]) = qc_LR ρ b (x :: xs) := by
  have hk2 : qc_k ρ ≠ 2 := by omega
  have he : ∀ b x y, x < 4 → qc_e ρ b x y = qc_eL ρ b x y := by
    intro b x y hx
    have h5 : x ≠ 5 := by omega
    simp [qc_e, qc_eL, hk, hk2, hx, h5]
  intro xs
  induction xs with
  | nil =>
    intro b x hx _
    show qc_e ρ b x 4 ++ [] = qc_eL ρ b x 4 ++ qc_eL ρ x 4 4
    rw [he b x 4 hx]
    simp [qc_eL, hk2]
  | cons y ys ih =>
    intro b x hx hy
    have hy4 := hy y List.mem_cons_self
    have h5 : x ≠ 5 := by omega
    have h4 : y ≠ 4 := by omega
    rw [List.cons_append, qc_us_s, qc_LR_s, show qc_b ρ b x y = x by simp [qc_b, hk2, h5], show qc_h ρ x y = y by simp [qc_h, hk2, h4], ih x y hy4 (fun v hv => hy v (List.mem_cons_of_mem _ hv)), he b x y hx]
    rfl
theorem qc_us_LR {ρ : Nat} (hk : qc_k ρ < 3) {p : List Nat} (hp : ∀ v, v ∈ p → v < 4) : qc_us ρ 4 5 (p ++ [4]) = qc_LR ρ 4 p := by
  by_cases h2 : qc_k ρ = 2
  · exact qc_us_2 h2 p 4 5 hp
  · have hk1 : qc_k ρ < 2 := by omega
    cases p with
    | nil =>
      show qc_e ρ 4 5 4 ++ [] = qc_eL ρ 4 4 4
      simp [qc_e, qc_eL, h2]
    | cons x xs =>
      have hx := hp x List.mem_cons_self
      have h4 : x ≠ 4 := by omega
      rw [List.cons_append, qc_us_s, show qc_b ρ 4 5 x = 4 by simp [qc_b, h2], show qc_h ρ 5 x = x by simp [qc_h, h2, h4], show qc_e ρ 4 5 x = [] by simp [qc_e, h2], List.nil_append]
      exact qc_us_1 hk1 xs 4 x hx (fun v hv => hp v (List.mem_cons_of_mem _ hv))
theorem qc_B_LR {ρ : Nat} (hk : qc_k ρ < 3) {p : List Nat} (hp : ∀ v, v ∈ p → v < 4) : qc_B ρ p = (qc_LR ρ 4 p).take 12 := by
  rw [← qc_us_LR hk hp]
  exact qc_os_us ρ (p ++ [4]) (4, 5, 0)
theorem qc_eL_len (ρ b x y : Nat) : (qc_eL ρ b x y).length ≤ 2 := by
  unfold qc_eL
  repeat' split
  all_goals simp
theorem qc_eL_lt (ρ b x y : Nat) : ∀ v, v ∈ qc_eL ρ b x y → v < 4 := by
  intro v hv
  have hq := qc_y_lt ρ
  unfold qc_eL at hv
  repeat' split at hv
  all_goals simp at hv
  all_goals omega
end
section
/-! Words that lead to a word, counted; memories as numbers. -/
def qc_ck (W : List Nat) : Nat → List Nat → Bool
  | _, [] => true
  | r, x :: xs => (W[r]? == some x) && qc_ck W (r + 1) xs
theorem qc_ck_0 (W : List Nat) (r : Nat) : qc_ck W r [] = true := rfl
theorem qc_ck_s (W : List Nat) (r x : Nat) (xs : List Nat) : qc_ck W r (x :: xs) = ((W[r]? == some x) && qc_ck W (r + 1) xs) := rfl
theorem qc_ck_app (W b : List Nat) : ∀ (a : List Nat) (r : Nat), qc_ck W r (a ++ b) = (qc_ck W r a && qc_ck W (r + a.length) b) := by
  intro a
  induction a with
  | nil => intro r; rfl
  | cons x xs ih =>
    intro r
    rw [List.cons_append, qc_ck_s, qc_ck_s, ih, Bool.and_assoc, List.length_cons, show r + 1 + xs.length = r + (xs.length + 1) by omega]
theorem qc_ck_iff (W : List Nat) : ∀ (c : List Nat) (r : Nat), qc_ck W r c = true ↔ ∀ j v, c[j]? = some v → W[r + j]? = some v := by
  intro c
  induction c with
  | nil => intro r; exact ⟨fun _ j v h => by simp at h, fun _ => rfl⟩
  | cons x xs ih =>
    intro r
    rw [qc_ck_s, Bool.and_eq_true, ih (r + 1), beq_iff_eq]
    constructor
    · rintro ⟨h1, h2⟩ j v hj
      cases j with
      | zero =>
        rw [List.getElem?_cons_zero] at hj
        rw [Nat.add_zero, h1, hj]
      | succ j =>
        rw [List.getElem?_cons_succ] at hj
        rw [show r + (j + 1) = r + 1 + j by omega]
        exact h2 j v hj
    · intro h
      refine ⟨h 0 x rfl, fun j v hj => ?_⟩
      rw [show r + 1 + j = r + (j + 1) by omega]
      exact h (j + 1) v (by rw [List.getElem?_cons_succ]; exact hj)
def qc_ag (W : List Nat) (r0 : Nat) (L : List Nat) : Bool := qc_ck W r0 (L.drop r0)
def qc_fi (W : List Nat) (r0 : Nat) (L : List Nat) : Bool := (L.length == W.length) && qc_ag W r0 L
theorem qc_ag_app {W A c : List Nat} {r0 : Nat} (h : r0 ≤ A.length) : qc_ag W r0 (A ++ c) = (qc_ag W r0 A && qc_ck W A.length c) := by
  unfold qc_ag
  rw [List.drop_append_of_le_length h, qc_ck_app, List.length_drop, show r0 + (A.length - r0) = A.length by omega]
theorem qc_ag_self (W A : List Nat) : qc_ag W A.length A = true := by
  unfold qc_ag
  rw [List.drop_length]
  rfl
theorem qc_fi_0 {W L : List Nat} : qc_fi W 0 L = true ↔ L = W := by
  unfold qc_fi qc_ag
  rw [Bool.and_eq_true, beq_iff_eq, List.drop_zero, qc_ck_iff]
  constructor
  · rintro ⟨h1, h2⟩
    apply List.ext_getElem?
    intro i
    rcases Nat.lt_or_ge i L.length with z | z
    · have := h2 i L[i] (List.getElem?_eq_getElem z)
      rw [Nat.zero_add] at this
      rw [this, List.getElem?_eq_getElem z]
    · rw [List.getElem?_eq_none z, List.getElem?_eq_none (by omega)]
  · intro h
    subst h
    exact ⟨rfl, fun j v hj => by rw [Nat.zero_add]; exact hj⟩
def qc_ct (f : Nat → Bool) : Nat → Nat
  | 0 => 0
  | n + 1 => qc_ct f n + (if f n = true then 1 else 0)
theorem qc_ct_0 (f : Nat → Bool) : qc_ct f 0 = 0 := rfl
theorem qc_ct_s (f : Nat → Bool) (n : Nat) : qc_ct f (n + 1) = qc_ct f n + (if f n = true then 1 else 0) := rfl
theorem qc_ct_add (f : Nat → Bool) (a : Nat) : ∀ b, qc_ct f (a + b) = qc_ct f a + qc_ct (fun i => f (a + i)) b := by
  intro b
  induction b with
  | zero => rfl
  | succ b ih => rw [← Nat.add_assoc, qc_ct_s, qc_ct_s, ih, Nat.add_assoc]
theorem qc_ct_cong {f g : Nat → Bool} : ∀ {n : Nat}, (∀ i, i < n → f i = g i) → qc_ct f n = qc_ct g n := by
  intro n
  induction n with
  | zero => intro _; rfl
  | succ n ih => intro h; rw [qc_ct_s, qc_ct_s, ih (fun i hi => h i (by omega)), h n (by omega)]
theorem qc_ct_le (f : Nat → Bool) : ∀ n, qc_ct f n ≤ n := by
  intro n
  induction n with
  | zero => exact Nat.le_refl 0
  | succ n ih => rw [qc_ct_s]; split <;> omega
theorem qc_ct_mono (f : Nat → Bool) {a b : Nat} (h : a ≤ b) : qc_ct f a ≤ qc_ct f b := by
  rw [show b = a + (b - a) by omega, qc_ct_add]
  omega
theorem qc_ct_lt {f : Nat → Bool} {v n : Nat} (h : v < n) (hv : f v = true) : qc_ct f v < qc_ct f n := by
  have := qc_ct_mono f (show v + 1 ≤ n by omega)
  rw [qc_ct_s, if_pos hv] at this
  omega
theorem qc_ct_zero {f : Nat → Bool} : ∀ {n : Nat}, (∀ i, i < n → f i = false) → qc_ct f n = 0 := by
  intro n
  induction n with
  | zero => intro _; rfl
  | succ n ih => intro h; rw [qc_ct_s, ih (fun i hi => h i (by omega)), h n (by omega)]; rfl
def qc_O (ρ : Nat → Nat) (k : Nat) (p : List Nat) : List Nat := qc_fl ρ qc_z [] p k
def qc_R (ρ : Nat → Nat) (k : Nat) (p : List Nat) : List Nat := qc_fl ρ qc_z [4] p k
def qc_M (ρ : Nat → Nat) (p : List Nat) : Nat → qc_Mem := qc_fm ρ qc_z [] p
theorem qc_R_app (ρ : Nat → Nat) (k : Nat) (p q : List Nat) : qc_R ρ k (p ++ q) = qc_O ρ k p ++ qc_fl ρ (qc_M ρ p) [4] q k := qc_fl_app ρ qc_z [4] p q k
theorem qc_R_O (ρ : Nat → Nat) (k : Nat) (p : List Nat) : qc_R ρ k p = qc_O ρ k p ++ qc_fl ρ (qc_M ρ p) [4] [] k := by
  have := qc_R_app ρ k p []
  rw [List.append_nil] at this
  exact this
theorem qc_O_app (ρ : Nat → Nat) (k : Nat) (p q : List Nat) : qc_O ρ k (p ++ q) = qc_O ρ k p ++ qc_fl ρ (qc_M ρ p) [] q k := qc_fl_app ρ qc_z [] p q k
theorem qc_M_app (ρ : Nat → Nat) (p q : List Nat) (s : Nat) : qc_fm ρ (qc_M ρ p) [] q s = qc_M ρ (p ++ q) s := qc_fm_app ρ qc_z [] p q s
theorem qc_M_V {ρ : Nat → Nat} {p : List Nat} (hp : ∀ v, v ∈ p → v < 4) (s : Nat) : qc_V (qc_M ρ p s) := qc_fm_V qc_z_V qc_0 hp s
theorem qc_O_len {ρ : Nat → Nat} {p : List Nat} (k : Nat) (hp : ∀ v, v ∈ p → v < 4) (hl : p.length ≤ 12) : (qc_O ρ k p).length ≤ 12 := qc_fl_len qc_z_V qc_0 hp hl k
theorem qc_R_len {ρ : Nat → Nat} {p : List Nat} (k : Nat) (hp : ∀ v, v ∈ p → v < 4) (hl : p.length ≤ 12) : (qc_R ρ k p).length ≤ 12 := qc_fl_len qc_z_V qc_4 hp hl k
theorem qc_O_lt {ρ : Nat → Nat} {p : List Nat} (k : Nat) (hp : ∀ v, v ∈ p → v < 4) : ∀ v, v ∈ qc_O ρ k p → v < 4 := qc_fl_lt qc_z_V qc_0 hp k
theorem qc_R_lt {ρ : Nat → Nat} {p : List Nat} (k : Nat) (hp : ∀ v, v ∈ p → v < 4) : ∀ v, v ∈ qc_R ρ k p → v < 4 := qc_fl_lt qc_z_V qc_4 hp k
theorem qc_R_0 (ρ : Nat → Nat) (p : List Nat) : qc_R ρ 0 p = p := rfl
theorem qc_R_s (ρ : Nat → Nat) (k : Nat) (p : List Nat) : qc_R ρ (k + 1) p = qc_B (ρ k) (qc_R ρ k p) := rfl
theorem qc_O_nil (ρ : Nat → Nat) : ∀ k, qc_O ρ k [] = [] := by
  intro k
  induction k with
  | zero => rfl
  | succ k ih =>
    have e : qc_O ρ (k + 1) [] = qc_os (ρ k) (qc_z k) (qc_O ρ k [] ++ []) := rfl
    rw [e, ih]
    rfl
theorem qc_M_nil (ρ : Nat → Nat) (s : Nat) : qc_M ρ [] s = (4, 5, 0) := by
  have e : qc_M ρ [] s = qc_ms (ρ s) (qc_z s) (qc_O ρ s [] ++ []) := rfl
  rw [e, qc_O_nil]
  rfl
def qc_f (ρ : Nat → Nat) (k : Nat) (W : List Nat) (r0 : Nat) (p : List Nat) (n : Nat) : Nat → Bool := fun w => qc_fi W r0 (qc_R ρ k (p ++ qc_dg n w))
def qc_c (ρ : Nat → Nat) (k : Nat) (W : List Nat) (r0 : Nat) (p : List Nat) (n : Nat) : Nat := qc_ct (qc_f ρ k W r0 p n) (4 ^ n)
section
variable {ρ : Nat → Nat} {k : Nat} {W : List Nat}
theorem qc_f_dig {r0 : Nat} {p : List Nat} {n l w : Nat} (hl : l < 4) (hw : w < 4 ^ n) : qc_f ρ k W r0 p (n + 1) (l * 4 ^ n + w) = qc_f ρ k W r0 (p ++ [l]) n w := by
  unfold qc_f
  rw [qc_dg_cons n l w hl hw, List.append_assoc]
  rfl
theorem qc_ct_dig {r0 : Nat} {p : List Nat} {n l v : Nat} (hl : l < 4) (hv : v ≤ 4 ^ n) : qc_ct (qc_f ρ k W r0 p (n + 1)) (l * 4 ^ n + v) = qc_ct (qc_f ρ k W r0 p (n + 1)) (l * 4 ^ n) + qc_ct (qc_f ρ k W r0 (p ++ [l]) n) v := by
  rw [qc_ct_add]
  congr 1
  exact qc_ct_cong (fun i hi => qc_f_dig hl (by omega))
theorem qc_ct_blk {r0 : Nat} {p : List Nat} {n l : Nat} (hl : l < 4) : qc_ct (qc_f ρ k W r0 p (n + 1)) ((l + 1) * 4 ^ n) = qc_ct (qc_f ρ k W r0 p (n + 1)) (l * 4 ^ n) + qc_c ρ k W r0 (p ++ [l]) n := by
  rw [show (l + 1) * 4 ^ n = l * 4 ^ n + 4 ^ n by rw [Nat.add_mul, Nat.one_mul], qc_ct_dig hl (Nat.le_refl _)]
  rfl
theorem qc_c_s (r0 : Nat) (p : List Nat) (n : Nat) : qc_c ρ k W r0 p (n + 1) = qc_c ρ k W r0 (p ++ [0]) n + qc_c ρ k W r0 (p ++ [1]) n + qc_c ρ k W r0 (p ++ [2]) n + qc_c ρ k W r0 (p ++ [3]) n := by
  have h3 := qc_ct_blk (ρ := ρ) (k := k) (W := W) (r0 := r0) (p := p) (n := n) (l := 3) (by decide)
  have h2 := qc_ct_blk (ρ := ρ) (k := k) (W := W) (r0 := r0) (p := p) (n := n) (l := 2) (by decide)
  have h1 := qc_ct_blk (ρ := ρ) (k := k) (W := W) (r0 := r0) (p := p) (n := n) (l := 1) (by decide)
  have h0 := qc_ct_blk (ρ := ρ) (k := k) (W := W) (r0 := r0) (p := p) (n := n) (l := 0) (by decide)
  rw [Nat.zero_mul, qc_ct_0] at h0
  have e : qc_c ρ k W r0 p (n + 1) = qc_ct (qc_f ρ k W r0 p (n + 1)) ((3 + 1) * 4 ^ n) := by
    unfold qc_c
    rw [qc_pow4]
  rw [e, h3, h2, h1, h0]
  omega
theorem qc_fi_app {A c : List Nat} {r0 : Nat} (h : r0 ≤ A.length) : qc_fi W r0 (A ++ c) = (((A.length + c.length) == W.length) && (qc_ag W r0 A && qc_ck W A.length c)) := by
  unfold qc_fi
  rw [qc_ag_app h, List.length_append]
theorem qc_c_bad {r0 : Nat} {p : List Nat} {n : Nat} (hr : r0 ≤ (qc_O ρ k p).length) (h : qc_ag W r0 (qc_O ρ k p) = false) : qc_c ρ k W r0 p n = 0 := by
  refine qc_ct_zero (fun w _ => ?_)
  unfold qc_f
  rw [qc_R_app, qc_fi_app hr, h, Bool.false_and, Bool.and_false]
theorem qc_c_same {r0 : Nat} {p q : List Nat} {n : Nat} (hr : r0 ≤ (qc_O ρ k p).length) (hO : (qc_O ρ k p).length = (qc_O ρ k q).length) (hM : ∀ s, s < k → qc_M ρ p s = qc_M ρ q s)
    (hp : qc_ag W r0 (qc_O ρ k p) = true) (hq : qc_ag W r0 (qc_O ρ k q) = true) : qc_c ρ k W r0 p n = qc_c ρ k W r0 q n := by
  refine qc_ct_cong (fun w _ => ?_)
  unfold qc_f
  rw [qc_R_app, qc_R_app, qc_fi_app hr, qc_fi_app (by omega), hp, hq, hO, qc_fl_cong (fun s _ => rfl) hM k (Nat.le_refl k)]
theorem qc_c_r0 {r0 r1 : Nat} {p : List Nat} {n : Nat} (h0 : r0 ≤ (qc_O ρ k p).length) (h1 : r1 ≤ (qc_O ρ k p).length) (a0 : qc_ag W r0 (qc_O ρ k p) = true) (a1 : qc_ag W r1 (qc_O ρ k p) = true) : qc_c ρ k W r0 p n = qc_c ρ k W r1 p n := by
  refine qc_ct_cong (fun w _ => ?_)
  unfold qc_f
  rw [qc_R_app, qc_fi_app h0, qc_fi_app h1, a0, a1]
theorem qc_c_0 (r0 : Nat) (p : List Nat) : qc_c ρ k W r0 p 0 = if qc_fi W r0 (qc_R ρ k p) = true then 1 else 0 := by
  have e : qc_c ρ k W r0 p 0 = 0 + (if qc_fi W r0 (qc_R ρ k (p ++ [])) = true then 1 else 0) := rfl
  rw [e, List.append_nil, Nat.zero_add]
theorem qc_c_le (r0 : Nat) (p : List Nat) (n : Nat) : qc_c ρ k W r0 p n ≤ 4 ^ n := qc_ct_le _ _
theorem qc_f_0 {n w : Nat} : qc_f ρ k W 0 [] n w = true ↔ qc_R ρ k (qc_dg n w) = W := by
  unfold qc_f
  rw [List.nil_append]
  exact qc_fi_0
end
def qc_cd (m : qc_Mem) : Nat := m.1 + 8 * m.2.1 + 64 * m.2.2
def qc_pk (r : Nat) (m : Nat → qc_Mem) : Nat → Nat
  | 0 => r
  | s + 1 => qc_pk r m s * 1024 + qc_cd (m s)
theorem qc_pk_0 (r : Nat) (m : Nat → qc_Mem) : qc_pk r m 0 = r := rfl
theorem qc_pk_s (r : Nat) (m : Nat → qc_Mem) (s : Nat) : qc_pk r m (s + 1) = qc_pk r m s * 1024 + qc_cd (m s) := rfl
theorem qc_cd_lt {m : qc_Mem} (h : qc_V m) : qc_cd m < 1024 := by
  obtain ⟨h1, h2, h3, h4⟩ := h
  unfold qc_cd
  omega
theorem qc_cd_inj {m m' : qc_Mem} (h : qc_V m) (h' : qc_V m') (e : qc_cd m = qc_cd m') : m = m' := by
  obtain ⟨h1, h2, h3, h4⟩ := h
  obtain ⟨g1, g2, g3, g4⟩ := h'
  obtain ⟨a, b, c⟩ := m
  obtain ⟨a', b', c'⟩ := m'
  unfold qc_cd at e
  dsimp only at e h1 h2 h4 g1 g2 g4
  have e1 : a = a' := by omega
  have e2 : b = b' := by omega
  have e3 : c = c' := by omega
  rw [e1, e2, e3]
theorem qc_pk_inj {r r' : Nat} {m m' : Nat → qc_Mem} (h : ∀ s, qc_V (m s)) (h' : ∀ s, qc_V (m' s)) : ∀ k, qc_pk r m k = qc_pk r' m' k → r = r' ∧ ∀ s, s < k → m s = m' s := by
  intro k
  induction k with
  | zero => intro e; exact ⟨e, fun s hs => absurd hs (by omega)⟩
  | succ k ih =>
    intro e
    rw [qc_pk_s, qc_pk_s] at e
    have a := qc_cd_lt (h k)
    have b := qc_cd_lt (h' k)
    obtain ⟨i1, i2⟩ := ih (by omega)
    refine ⟨i1, fun s hs => ?_⟩
    by_cases z : s = k
    · rw [z]
      exact qc_cd_inj (h k) (h' k) (by omega)
    · exact i2 s (by omega)
theorem qc_pk_lt {r : Nat} {m : Nat → qc_Mem} (hr : r ≤ 12) (h : ∀ s, qc_V (m s)) : ∀ k, qc_pk r m k < 13 * 1024 ^ k := by
  intro k
  induction k with
  | zero => rw [qc_pk_0]; omega
  | succ k ih =>
    have a := qc_cd_lt (h k)
    rw [qc_pk_s, Nat.pow_succ]
    omega
theorem qc_pk_54 {r : Nat} {m : Nat → qc_Mem} {k : Nat} (hr : r ≤ 12) (h : ∀ s, qc_V (m s)) (hk : k ≤ 5) : qc_pk r m k < 2 ^ 54 := by
  have a := qc_pk_lt hr h k
  have b : 1024 ^ k ≤ 1024 ^ 5 := Nat.pow_le_pow_right (by decide) hk
  have c : (1024 : Nat) ^ 5 = 2 ^ 50 := by decide
  omega
def qc_P (ρ : Nat → Nat) (k : Nat) (p : List Nat) : Nat := qc_pk (qc_O ρ k p).length (qc_M ρ p) k
def qc_sm (f : Nat → Nat) : Nat → Nat
  | 0 => 0
  | n + 1 => qc_sm f n + f n
theorem qc_sm_0 (f : Nat → Nat) : qc_sm f 0 = 0 := rfl
theorem qc_sm_s (f : Nat → Nat) (n : Nat) : qc_sm f (n + 1) = qc_sm f n + f n := rfl
theorem qc_sm_cong {f g : Nat → Nat} : ∀ {n : Nat}, (∀ i, i < n → f i = g i) → qc_sm f n = qc_sm g n := by
  intro n
  induction n with
  | zero => intro _; rfl
  | succ n ih => intro h; rw [qc_sm_s, qc_sm_s, ih (fun i hi => h i (by omega)), h n (by omega)]
theorem qc_sm_4 (g : Nat → Nat) : ∀ F, qc_sm g (4 * F) = qc_sm (fun i => g (4 * i) + g (4 * i + 1) + g (4 * i + 2) + g (4 * i + 3)) F := by
  intro F
  induction F with
  | zero => rfl
  | succ F ih =>
    rw [qc_sm_s, ← ih, show 4 * (F + 1) = 4 * F + 1 + 1 + 1 + 1 by omega, qc_sm_s, qc_sm_s, qc_sm_s, qc_sm_s]
    omega
theorem qc_sm_upd {f g : Nat → Nat} {j d : Nat} (hg : ∀ i, i ≠ j → g i = f i) (hj : g j = f j + d) : ∀ {n : Nat}, j < n → qc_sm g n = qc_sm f n + d := by
  intro n
  induction n with
  | zero => intro h; omega
  | succ n ih =>
    intro h
    rw [qc_sm_s, qc_sm_s]
    by_cases z : j = n
    · subst z
      rw [hj, qc_sm_cong (fun i hi => hg i (by omega))]
      omega
    · rw [ih (by omega), hg n (by omega)]
      omega
end
section
/-! Numbers: what the program's operations are on small naturals. (The four rows qg_ began as rows of laws/BITS.to-paste.) -/
theorem qg_tn {n : Nat} (h : n < 2 ^ 64) : (UInt64.ofNat n).toNat = n := Nat.mod_eq_of_lt h
theorem qg_and {a b c : Nat} (ha : a < 2 ^ 64) (hb : b < 2 ^ 64) (hc : a &&& b = c) : lN a &&& lN b = lN c := by
  subst hc
  have h : UInt64.ofNat a &&& UInt64.ofNat b = UInt64.ofNat (a &&& b) := UInt64.toNat_inj.mp (by rw [UInt64.toNat_and, qg_tn ha, qg_tn hb, qg_tn (Nat.and_lt_two_pow a hb)])
  have h2 := congrArg UInt64.toInt64 h
  exact h2
theorem qg_mask {a s p : Nat} (hp : 2 ^ s = p) (hs : s < 64) (ha : a < 2 ^ 64) : lN a &&& lN (p - 1) = lN (a % p) := by
  subst hp
  have := Nat.pow_lt_pow_right (show 1 < 2 by decide) hs
  exact qg_and ha (by omega) (Nat.and_two_pow_sub_one_eq_mod a s)
theorem qg_or {k p a b : Nat} (hp : 2 ^ k = p) (ha : a < p) (h : b * p + a < 2 ^ 64) : lN (b * p) ||| lN a = lN (b * p + a) := by
  subst hp
  have h1 : b * 2 ^ k ||| a = b * 2 ^ k + a := by rw [← Nat.shiftLeft_eq, Nat.shiftLeft_add_eq_or_of_lt ha]
  have h3 : UInt64.ofNat (b * 2 ^ k) ||| UInt64.ofNat a = UInt64.ofNat (b * 2 ^ k + a) := UInt64.toNat_inj.mp (by rw [UInt64.toNat_or, qg_tn (by omega), qg_tn (by omega), qg_tn h, h1])
  have h2 := congrArg UInt64.toInt64 h3
  exact h2
theorem qg_shl {a k p : Nat} {y : Int64} (hy : y.toBitVec.smod 64 = BitVec.ofNat 64 k) (hk : k < 64) (hp : 2 ^ k = p) (ha : a < 2 ^ 64) : lN a <<< y = lN (a * p) := by
  subst hp
  apply Int64.toBitVec_inj.mp
  rw [Int64.toBitVec_shiftLeft, hy]
  apply BitVec.eq_of_toNat_eq
  have hb : (lN a).toBitVec.toNat = a := Nat.mod_eq_of_lt ha
  have hk' : (BitVec.ofNat 64 k).toNat = k := Nat.mod_eq_of_lt (by omega)
  have h : ((lN a).toBitVec <<< BitVec.ofNat 64 k).toNat = (a * 2 ^ k) % 2 ^ 64 := by simp only [BitVec.shiftLeft_eq', BitVec.toNat_shiftLeft, hb, hk', Nat.shiftLeft_eq]
  exact h
theorem qg_shr {a d : Nat} {D : Int64} (hD : (D.toBitVec.smod 64).toNat = d) (h : a < 2 ^ 62) : lN a >>> D = lN (a / 2 ^ d) := by
  have hd : a / 2 ^ d ≤ a := Nat.div_le_self _ _
  apply Int64.toInt_inj.mp
  have e : (lN a >>> D).toInt = (lN a).toInt >>> d := by
    rw [← hD]
    exact BitVec.toInt_sshiftRight ..
  rw [e, Int.shiftRight_eq_div_pow, pk_lT (by omega), pk_lT (by omega)]
  rfl
theorem qn_b : ∀ v, v < 128 → (nI v).toInt8.toInt32 = nI v := by decide +kernel
theorem qn_nar {v : Nat} (h : v < 128) : vp_nar .byte (nI v) = nI v := by rw [vp_nar_byte]; exact qn_b v h
theorem qn_al : ∀ s, s < 32 → ∀ y, y < 6 → ((((nI s >>> (nI y &&& 31)) &&& 1) = 1) ↔ qc_al s y = true) := by decide +kernel
theorem qn_sl : ∀ n, n < 32 → ((nI n &&& 31).toBitVec.smod 32).toNat = n := by decide +kernel
theorem qn_4p (i : Nat) : 2 ^ (2 * i) = 4 ^ i := by rw [Nat.pow_mul]
theorem qn_dig {w i : Nat} (hw : w < 2 ^ 31) (hi : i < 16) : (nI w >>> (((2 : Int32) * nI i) &&& 31)) &&& 3 = nI (w / 4 ^ i % 4) := by
  have e : (2 : Int32) * nI i = nI (2 * i) := pk_mul 2 i
  rw [e, pk_shrN hw _ (2 * i) (qn_sl _ (by omega)), qn_4p]
  exact pk_andN (Nat.lt_of_le_of_lt (Nat.div_le_self _ _) (by omega)) 2 (by decide)
theorem qn_any (x : Int32) : ∃ d, d < 4 ∧ x &&& 3 = nI d := pk_andE x 2 (by decide)
theorem qn_p1 : ∀ n, n < 6 → (1 : Int32) <<< (((2 : Int32) * nI n) &&& 31) = nI (4 ^ n) := by decide +kernel
theorem qn_p2 : ∀ n, n < 6 → (2 : Int32) <<< (((2 : Int32) * nI n) &&& 31) = nI (2 * 4 ^ n) := by decide +kernel
theorem qn_pk : ∀ b, b < 8 → ∀ h, h < 8 → ∀ c, c < 13 → (nI b ||| (nI h <<< ((3 : Int32) &&& 31))) ||| (nI c <<< ((6 : Int32) &&& 31)) = nI (b + 8 * h + 64 * c) := by decide +kernel
theorem qn_up : ∀ n, n < 1024 → (nI n &&& 7).toInt8.toInt32 = nI (n % 8) ∧ ((nI n >>> ((3 : Int32) &&& 31)) &&& 7).toInt8.toInt32 = nI (n / 8 % 8) ∧ (nI n >>> ((6 : Int32) &&& 31)).toInt8.toInt32 = nI (n / 64) := by decide +kernel
theorem qn_lp {a c : Nat} (hc : c < 1024) (h : a < 2 ^ 50) : (lN a <<< ((10 : Int32).toInt64 &&& 63)) ||| (nI c).toInt64 = lN (a * 1024 + c) := by
  rw [qg_shl (k := 10) (p := 1024) (by decide) (by decide) (by decide) (by omega), nI_l (by omega)]
  exact qg_or (k := 10) (by decide) hc (by omega)
theorem qn_lm {a : Nat} (h : a < 2 ^ 62) : (lN a &&& 1023).toInt32 = nI (a % 1024) := by
  have e : lN a &&& 1023 = lN (a % 1024) := qg_mask (s := 10) (p := 1024) (by decide) (by decide) (by omega)
  rw [e, lN_i]
theorem qn_ls {a : Nat} (h : a < 2 ^ 62) : lN a >>> ((10 : Int32).toInt64 &&& 63) = lN (a / 1024) := by
  rw [qg_shr (d := 10) (by decide) h]
theorem qn_sh2 {n : Nat} (h : n < 2 ^ 31) : nI n >>> ((2 : Int32) &&& 31) = nI (n / 4) := pk_shrN h _ 2 (by decide)
theorem qn_and3 {n : Nat} (h : n < 2 ^ 32) : nI n &&& 3 = nI (n % 4) := pk_andN h 2 (by decide)
theorem qn_4m (c d : Nat) : (4 : Int32) * nI c + nI d = nI (4 * c + d) := by
  have e : (4 : Int32) * nI c = nI (4 * c) := pk_mul 4 c
  rw [e, nI_add]
def qn_w (b : Bool) : Int32 := if b = true then 1 else 0
/-! pictures -/
/-- an array holds a list from its start on -/
def qc_A (a : Nat → Int32) (c : List Nat) : Prop := ∀ j v, c[j]? = some v → a j = nI v
theorem qc_A_0 (a : Nat → Int32) : qc_A a [] := fun j v h => by simp at h
theorem qc_A_s {a : Nat → Int32} {c : List Nat} {x : Nat} (h : qc_A a c) : qc_A (upd a c.length (nI x)) (c ++ [x]) := by
  intro j v hj
  rcases Nat.lt_trichotomy j c.length with z | z | z
  · rw [List.getElem?_append_left z] at hj
    rw [pk_un (by omega)]
    exact h j v hj
  · subst z
    rw [List.getElem?_concat_length] at hj
    rw [pk_us, Option.some.inj hj]
  · rw [List.getElem?_eq_none (by rw [List.length_append]; show c.length + 1 ≤ j; omega)] at hj
    exact absurd hj (by simp)
theorem qc_A_get {c : List Nat} {i : Nat} (h : i < c.length) : ∃ v, c[i]? = some v ∧ v ∈ c ∧ c.drop i = v :: c.drop (i + 1) ∧ c.take (i + 1) = c.take i ++ [v] :=
  ⟨c[i], List.getElem?_eq_getElem h, List.getElem_mem h, List.drop_eq_getElem_cons h, (List.take_append_getElem h).symm⟩
/-- a rule in the rows of rules -/
def qc_Ru (a1 a2 a3 a4 a5 : Nat → Int32) (r ρ : Nat) : Prop :=
  qc_k ρ < 3 ∧ a1 r = nI (qc_k ρ) ∧ (qc_k ρ ≠ 2 → a2 r = nI (qc_x ρ)) ∧ (qc_k ρ ≠ 1 → a3 r = nI (qc_y ρ)) ∧ a4 r = nI (qc_l ρ) ∧ a5 r = nI (qc_r ρ)
/-- the line of rules at work -/
def qc_L (a1 a2 a3 a4 a5 a7 : Nat → Int32) (ρ : Nat → Nat) (k : Nat) : Prop := k ≤ 5 ∧ ∀ s, s < k → ∃ r, r < 5 ∧ a7 s = nI r ∧ qc_Ru a1 a2 a3 a4 a5 r (ρ s)
/-- a memory in the rows of memories -/
def qc_Me (a8 a9 a10 : Nat → Int32) (s : Nat) (m : qc_Mem) : Prop := a8 s = nI m.1 ∧ a9 s = nI m.2.1 ∧ a10 s = nI m.2.2
/-- two rows agree but for place s -/
def qc_U (a a' : Nat → Int32) (s : Nat) : Prop := ∀ j, j ≠ s → a' j = a j
theorem qc_U_r (a : Nat → Int32) (s : Nat) : qc_U a a s := fun _ _ => rfl
theorem qc_U_u (a : Nat → Int32) (s : Nat) (x : Int32) : qc_U a (upd a s x) s := fun _ h => pk_un h
theorem qc_U_t {a b c : Nat → Int32} {s : Nat} (h : qc_U a b s) (g : qc_U b c s) : qc_U a c s := fun j hj => by rw [g j hj, h j hj]
theorem qc_Me_U {a8 a9 a10 b8 b9 b10 : Nat → Int32} {s j : Nat} {m : qc_Mem} (h8 : qc_U a8 b8 s) (h9 : qc_U a9 b9 s) (h10 : qc_U a10 b10 s) (hj : j ≠ s) (h : qc_Me a8 a9 a10 j m) : qc_Me b8 b9 b10 j m :=
  ⟨by rw [h8 j hj]; exact h.1, by rw [h9 j hj]; exact h.2.1, by rw [h10 j hj]; exact h.2.2⟩
end
section
/-! One symbol comes to one rule. (Rows of state names written by src/gen.py.) -/
theorem qw_brb {b : Bool} {A B : Prop} (f : b = false → A) (g : b = true → B) : (qn_w b = 0 → A) ∧ (¬ qn_w b = 0 → B) := by
  cases b with
  | false => exact ⟨fun _ => f rfl, fun h => absurd rfl h⟩
  | true => exact ⟨fun h => absurd h (by decide), fun _ => g rfl⟩
theorem qw_tk {c : Nat} (a b : List Nat) : a.take (12 - c) ++ b.take (12 - (c + (a.take (12 - c)).length)) = (a ++ b).take (12 - c) := by
  rw [List.take_append, List.length_take, show 12 - (c + min (12 - c) a.length) = 12 - c - a.length by omega]
theorem qw_allows {post : Int32 → Prop} {fr fs fl fc fg fe fw ff fa : Int32} {a1 a2 a3 a4 a5 a6 a7 a8 a9 a10 a11 a12 a13 a15 a17 a18 : (Nat → Int32)} {a14 a16 : (Nat → Int64)} {l y : Nat} (hl : l < 32) (hy : y < 6) (H : post (qn_w (qc_al l y))) : wpX_allows post (fr, fs, fl, fc, fg, fe, fw, ff, fa, a1, a2, a3, a4, a5, a6, a7, a8, a9, a10, a11, a12, a13, a14, a15, a16, a17, a18) (nI l) (nI y) := by
  unfold wpX_allows
  have e := qn_al l hl y hy
  refine br_c (fun z => ?_) (fun z => ?_)
  · rw [e.mp z] at H
    exact H
  · have : qc_al l y = false := by
      cases h : qc_al l y with
      | false => rfl
      | true => exact absurd (e.mpr h) z
    rw [this] at H
    exact H
theorem qw_handOn {post : St2 → Prop} {fr fs fl fc fe fw ff fa : Int32} {a1 a2 a3 a4 a5 a6 a7 a8 a9 a10 a11 a12 a13 a15 a17 a18 : (Nat → Int32)} {a14 a16 : (Nat → Int64)} {s c v g : Nat} (hs : s < 5) (hc : a10 s = nI c) (hc12 : c ≤ 12) (hv : v < 128) (hg : g < 80)
    (H0 : c = 12 → post (fr, fs, fl, fc, nI g, fe, fw, ff, fa, a1, a2, a3, a4, a5, a6, a7, a8, a9, a10, a11, a12, a13, a14, a15, a16, a17, a18))
    (H1 : c < 12 → post (fr, fs, fl, fc, nI (g + 1), fe, fw, ff, fa, a1, a2, a3, a4, a5, a6, a7, a8, a9, upd a10 s (nI (c + 1)), a11, upd a12 g (nI v), a13, a14, a15, a16, a17, a18)) :
    wpX_handOn post (fr, fs, fl, fc, nI g, fe, fw, ff, fa, a1, a2, a3, a4, a5, a6, a7, a8, a9, a10, a11, a12, a13, a14, a15, a16, a17, a18) (nI s) (nI v) := by
  unfold wpX_handOn
  dsimp only
  rw [nI_clamp (show s < 2 ^ 31 by omega), hc]
  refine ⟨pk_in s 5 hs, pk_le 12 c (fun z => H0 (by omega)) (fun z => ⟨pk_in g 80 hg, nm_r ?_ (nm_r (nI_1 g) ⟨pk_in s 5 hs, pk_in s 5 hs, nm_r ?_ (H1 z)⟩)⟩)⟩
  · rw [nI_clamp (by omega), qn_b v hv]
  · rw [nI_1, qn_b _ (by omega)]
theorem qw_hand {post : St2 → Prop} {fr fs fl fc fe fw ff fa : Int32} {a1 a2 a3 a4 a5 a6 a7 a8 a9 a10 a11 a12 a13 a15 a17 a18 : (Nat → Int32)} {a14 a16 : (Nat → Int64)} {s c v : Nat} {G : List Nat} (hs : s < 5) (hc : a10 s = nI c) (hc12 : c ≤ 12) (hv : v < 128) (hG : qc_A a12 G) (hg : G.length < 80)
    (H : ∀ b10 b12 : Nat → Int32, qc_U a10 b10 s → b10 s = nI (c + ([v].take (12 - c)).length) → qc_A b12 (G ++ [v].take (12 - c)) → post (fr, fs, fl, fc, nI (G ++ [v].take (12 - c)).length, fe, fw, ff, fa, a1, a2, a3, a4, a5, a6, a7, a8, a9, b10, a11, b12, a13, a14, a15, a16, a17, a18)) :
    wpX_handOn post (fr, fs, fl, fc, nI G.length, fe, fw, ff, fa, a1, a2, a3, a4, a5, a6, a7, a8, a9, a10, a11, a12, a13, a14, a15, a16, a17, a18) (nI s) (nI v) := by
  refine qw_handOn hs hc hc12 hv hg (fun z => ?_) (fun z => ?_)
  · have e : [v].take (12 - c) = [] := by rw [z]; rfl
    rw [e] at H
    have h := H a10 a12 (qc_U_r _ _) hc (by rw [List.append_nil]; exact hG)
    rw [List.append_nil] at h
    exact h
  · have e : [v].take (12 - c) = [v] := by
      rw [show 12 - c = (11 - c) + 1 by omega, List.take_succ_cons, List.take_nil]
    rw [e] at H
    have h := H (upd a10 s (nI (c + 1))) (upd a12 G.length (nI v)) (qc_U_u _ _ _) pk_us (qc_A_s hG)
    rw [List.length_append] at h
    exact h
theorem qw_meet190 {post : St2 → Prop} {fr fs fl fc fg fe fw ff fa : Int32} {a1 a2 a3 a4 a5 a6 a7 a8 a9 a10 a11 a12 a13 a15 a17 a18 : (Nat → Int32)} {a14 a16 : (Nat → Int64)} {s y : Nat} (hs : s < 5) (hy : y ≤ 4) (H : post (fr, fs, fl, fc, fg, fe, fw, ff, fa, a1, a2, a3, a4, a5, a6, a7, a8, upd a9 s (nI (if y = 4 then 5 else y)), a10, a11, a12, a13, a14, a15, a16, a17, a18)) : wX_meet_190 post (nI s) (nI y) fr fs fl fc fg fe fw ff fa a1 a2 a3 a4 a5 a6 a7 a8 a9 a10 a11 a12 a13 a14 a15 a16 a17 a18 := by
  unfold wX_meet_190
  refine pk_eq y 4 (fun z => ⟨pk_in s 5 hs, nm_r ?_ H⟩) (fun z => ⟨pk_in s 5 hs, nm_r ?_ H⟩)
  · rw [nI_clamp (by omega), if_pos z]
    rfl
  · rw [nI_clamp (by omega), if_neg z, qn_b y (by omega)]
theorem qw_meet181 {post : St2 → Prop} {fr fs fl fc fg fe fw ff fa : Int32} {a1 a2 a3 a4 a5 a6 a7 a8 a9 a10 a11 a12 a13 a15 a17 a18 : (Nat → Int32)} {a14 a16 : (Nat → Int64)} {s y h : Nat} (hs : s < 5) (hy : y ≤ 4) (hh : h < 128) (H : post (fr, fs, fl, fc, fg, fe, fw, ff, fa, a1, a2, a3, a4, a5, a6, a7, upd a8 s (nI h), upd a9 s (nI (if y = 4 then 5 else y)), a10, a11, a12, a13, a14, a15, a16, a17, a18)) : wX_meet_181 post (nI s) (nI y) (nI h) fr fs fl fc fg fe fw ff fa a1 a2 a3 a4 a5 a6 a7 a8 a9 a10 a11 a12 a13 a14 a15 a16 a17 a18 := by
  unfold wX_meet_181
  exact ⟨pk_in s 5 hs, nm_r (by rw [nI_clamp (by omega), qn_b h hh]) (qw_meet190 hs hy H)⟩
theorem qw_meet143 {post : St2 → Prop} {fr fs fl fc fe fw ff fa : Int32} {a1 a2 a3 a4 a5 a6 a7 a8 a9 a10 a11 a12 a13 a15 a17 a18 : (Nat → Int32)} {a14 a16 : (Nat → Int64)} {s y h c : Nat} {x3 : Int32} {G : List Nat} (hs : s < 5) (hy : y ≤ 4) (hh : h < 128) (hc : a10 s = nI c) (hc12 : c ≤ 12) (hG : qc_A a12 G) (hg : G.length < 80)
    (H : ∀ b10 b12 : Nat → Int32, qc_U a10 b10 s → b10 s = nI (c + ([h].take (12 - c)).length) → qc_A b12 (G ++ [h].take (12 - c)) → post (fr, fs, fl, fc, nI (G ++ [h].take (12 - c)).length, fe, fw, ff, fa, a1, a2, a3, a4, a5, a6, a7, upd a8 s (nI h), upd a9 s (nI (if y = 4 then 5 else y)), b10, a11, b12, a13, a14, a15, a16, a17, a18)) :
    wX_meet_143 post (nI s) (nI y) x3 (nI h) fr fs fl fc (nI G.length) fe fw ff fa a1 a2 a3 a4 a5 a6 a7 a8 a9 a10 a11 a12 a13 a14 a15 a16 a17 a18 := by
  unfold wX_meet_143 wX_meet_144
  exact br_t rfl (qw_hand hs hc hc12 hh hG hg (fun b10 b12 u e g => qw_meet181 hs hy hh (H b10 b12 u e g)))
theorem qw_meet144 {post : St2 → Prop} {fr fs fl fc fe fw ff fa : Int32} {a1 a2 a3 a4 a5 a6 a7 a8 a9 a10 a11 a12 a13 a15 a17 a18 : (Nat → Int32)} {a14 a16 : (Nat → Int64)} {s y h c r ρ : Nat} {G : List Nat} (hs : s < 5) (hy : y ≤ 4) (hh : h < 128) (hc : a10 s = nI c) (hc12 : c ≤ 12) (hG : qc_A a12 G) (hg : G.length < 80) (hr : r < 5) (hR : qc_Ru a1 a2 a3 a4 a5 r ρ)
    (H : ∀ b10 b12 : Nat → Int32, qc_U a10 b10 s → b10 s = nI (c + ((if qc_k ρ = 0 then [qc_y ρ] else []).take (12 - c)).length) → qc_A b12 (G ++ (if qc_k ρ = 0 then [qc_y ρ] else []).take (12 - c)) → post (fr, fs, fl, fc, nI (G ++ (if qc_k ρ = 0 then [qc_y ρ] else []).take (12 - c)).length, fe, fw, ff, fa, a1, a2, a3, a4, a5, a6, a7, upd a8 s (nI h), upd a9 s (nI (if y = 4 then 5 else y)), b10, a11, b12, a13, a14, a15, a16, a17, a18)) :
    wX_meet_144 post (nI s) (nI y) (nI r) (nI h) 1 fr fs fl fc (nI G.length) fe fw ff fa a1 a2 a3 a4 a5 a6 a7 a8 a9 a10 a11 a12 a13 a14 a15 a16 a17 a18 := by
  unfold wX_meet_144
  obtain ⟨hk, r1, r2, r3, r4, r5⟩ := hR
  rw [nI_clamp (show r < 2 ^ 31 by omega), r1]
  refine br_f (by decide) ⟨pk_in r 5 hr, pk_eq (qc_k ρ) 0 (fun z => ⟨pk_in r 5 hr, ?_⟩) (fun z => ?_)⟩
  · rw [r3 (by omega)]
    rw [if_pos z] at H
    exact qw_hand hs hc hc12 (Nat.lt_trans (qc_y_lt ρ) (by decide)) hG hg (fun b10 b12 u e g => qw_meet181 hs hy hh (H b10 b12 u e g))
  · rw [if_neg z, List.take_nil, List.append_nil] at H
    exact qw_meet181 hs hy hh (H a10 a12 (qc_U_r _ _) hc hG)
theorem qw_meet61 {post : St2 → Prop} {fr fs fl fc fe fw ff fa : Int32} {a1 a2 a3 a4 a5 a6 a7 a8 a9 a10 a11 a12 a13 a15 a17 a18 : (Nat → Int32)} {a14 a16 : (Nat → Int64)} {s y c : Nat} {G : List Nat} (hs : s < 5) (hy : y ≤ 4) (hc : a10 s = nI c) (hc12 : c ≤ 12) (hG : qc_A a12 G) (hg : G.length < 80)
    (H : ∀ b10 b12 : Nat → Int32, qc_U a10 b10 s → b10 s = nI (c + ((if y = 4 then [] else [y]).take (12 - c)).length) → qc_A b12 (G ++ (if y = 4 then [] else [y]).take (12 - c)) → post (fr, fs, fl, fc, nI (G ++ (if y = 4 then [] else [y]).take (12 - c)).length, fe, fw, ff, fa, a1, a2, a3, a4, a5, a6, a7, upd a8 s (nI y), a9, b10, a11, b12, a13, a14, a15, a16, a17, a18)) :
    wX_meet_61 post (nI s) (nI y) fr fs fl fc (nI G.length) fe fw ff fa a1 a2 a3 a4 a5 a6 a7 a8 a9 a10 a11 a12 a13 a14 a15 a16 a17 a18 := by
  unfold wX_meet_61
  refine pk_eq y 4 (fun z => ⟨pk_in s 5 hs, nm_r (by rw [nI_clamp (by omega), qn_b y (by omega)]) ?_⟩) (fun z => ?_)
  · rw [if_pos z, List.take_nil, List.append_nil] at H
    exact H a10 a12 (qc_U_r _ _) hc hG
  · rw [if_neg z] at H
    exact qw_hand hs hc hc12 (by omega) hG hg (fun b10 b12 u e g => ⟨pk_in s 5 hs, nm_r (by rw [nI_clamp (by omega), qn_b y (by omega)]) (H b10 b12 u e g)⟩)
theorem qw_meet {post : St2 → Prop} {fr fs fl fc fe fw ff fa : Int32} {a1 a2 a3 a4 a5 a6 a7 a8 a9 a10 a11 a12 a13 a15 a17 a18 : (Nat → Int32)} {a14 a16 : (Nat → Int64)} {s y r ρ : Nat} {m : qc_Mem} {G : List Nat} (hs : s < 5) (hy : y ≤ 4) (hr : r < 5) (h7 : a7 s = nI r) (hR : qc_Ru a1 a2 a3 a4 a5 r ρ) (hm : qc_V m) (hM : qc_Me a8 a9 a10 s m) (hG : qc_A a12 G) (hg : G.length ≤ 60)
    (H : ∀ b8 b9 b10 b12 : Nat → Int32, qc_U a8 b8 s → qc_U a9 b9 s → qc_U a10 b10 s → qc_Me b8 b9 b10 s (qc_m ρ m y) → qc_A b12 (G ++ qc_o ρ m y) → post (fr, fs, fl, fc, nI (G ++ qc_o ρ m y).length, fe, fw, ff, fa, a1, a2, a3, a4, a5, a6, a7, b8, b9, b10, a11, b12, a13, a14, a15, a16, a17, a18)) :
    wpX_meet post (fr, fs, fl, fc, nI G.length, fe, fw, ff, fa, a1, a2, a3, a4, a5, a6, a7, a8, a9, a10, a11, a12, a13, a14, a15, a16, a17, a18) (nI s) (nI y) := by
  obtain ⟨b, h, c⟩ := m
  obtain ⟨v1, v2, v3, v4⟩ := hm
  obtain ⟨m8, m9, m10⟩ := hM
  dsimp only at v1 v2 v3 v4 m8 m9 m10
  have hR' := hR
  obtain ⟨hk, r1, r2, r3, r4, r5⟩ := hR
  have hl32 : qc_l ρ < 32 := Nat.mod_lt _ (by decide)
  have hr32 : qc_r ρ < 32 := Nat.mod_lt _ (by decide)
  have K : ∀ (E : List Nat) (b8 b9 b10 b12 : Nat → Int32), qc_e ρ b h y = E → qc_U a8 b8 s → qc_U a9 b9 s → b8 s = nI (qc_b ρ b h y) → b9 s = nI (qc_h ρ h y) → qc_U a10 b10 s → b10 s = nI (c + (E.take (12 - c)).length) → qc_A b12 (G ++ E.take (12 - c)) → post (fr, fs, fl, fc, nI (G ++ E.take (12 - c)).length, fe, fw, ff, fa, a1, a2, a3, a4, a5, a6, a7, b8, b9, b10, a11, b12, a13, a14, a15, a16, a17, a18) := by
    intro E b8 b9 b10 b12 hE u8 u9 e8 e9 u10 e10 g
    subst hE
    exact H b8 b9 b10 b12 u8 u9 u10 ⟨e8, e9, e10⟩ g
  unfold wpX_meet
  dsimp only
  refine ⟨pk_in s 5 hs, nm_r (e' := nI r) (by rw [nI_clamp (by omega)]; exact h7) ⟨pk_in r 5 hr, ?_⟩⟩
  rw [nI_clamp (show r < 2 ^ 31 by omega), nI_clamp (show s < 2 ^ 31 by omega), r1, r4, r5, m8, m9]
  refine pk_eq (qc_k ρ) 2 (fun z => ⟨pk_in r 5 hr, pk_in s 5 hs, ?_⟩) (fun z => ⟨pk_in s 5 hs, nm_e ?_⟩)
  · -- a rule that inserts
    rw [r3 (by omega)]
    have K2 : ∀ (E : List Nat) (b10 b12 : Nat → Int32), (if qc_ab ρ b y = true then [qc_y ρ] else []) = E → qc_U a10 b10 s → b10 s = nI (c + (E.take (12 - c)).length) → qc_A b12 (G ++ E.take (12 - c)) → wX_meet_61 post (nI s) (nI y) fr fs fl fc (nI (G ++ E.take (12 - c)).length) fe fw ff fa a1 a2 a3 a4 a5 a6 a7 a8 a9 b10 a11 b12 a13 a14 a15 a16 a17 a18 := by
      intro E b10 b12 hE u10 e10 g
      have hlen : (E.take (12 - c)).length ≤ 12 - c := List.length_take_le _ _
      refine qw_meet61 hs hy e10 (by omega) g (by rw [List.length_append]; omega) (fun c10 c12 w10 f10 g' => ?_)
      rw [List.append_assoc, qw_tk] at g' ⊢
      refine K (E ++ if y = 4 then [] else [y]) _ _ _ _ ?_ (qc_U_u _ _ _) (qc_U_r _ _) ?_ ?_ (qc_U_t u10 w10) ?_ g'
      · rw [← hE]
        simp [qc_e, z]
      · rw [pk_us]
        simp [qc_b, z]
      · rw [m9]
        simp [qc_h, z]
      · rw [f10, ← qw_tk, List.length_append, Nat.add_assoc]
    have K0 : qc_ab ρ b y = false → wX_meet_61 post (nI s) (nI y) fr fs fl fc (nI G.length) fe fw ff fa a1 a2 a3 a4 a5 a6 a7 a8 a9 a10 a11 a12 a13 a14 a15 a16 a17 a18 := by
      intro hb
      have := K2 [] a10 a12 (by rw [hb]; rfl) (qc_U_r _ _) (by rw [List.take_nil]; exact m10) (by rw [List.take_nil, List.append_nil]; exact hG)
      rw [List.take_nil, List.append_nil] at this
      exact this
    refine qw_allows hl32 (by omega) (qw_brb (fun f1 => K0 (by unfold qc_ab; rw [f1]; rfl)) (fun f1 => ⟨pk_in r 5 hr, qw_allows hr32 (by omega) (qw_brb (fun f2 => K0 (by unfold qc_ab; rw [f2, Bool.and_false])) (fun f2 => ⟨pk_in r 5 hr, ?_⟩))⟩))
    exact qw_hand hs m10 v4 (Nat.lt_trans (qc_y_lt ρ) (by decide)) hG (by omega) (fun b10 b12 u e g => K2 [qc_y ρ] b10 b12 (by unfold qc_ab; rw [f1, f2]; rfl) u e g)
  · rw [r2 z]
    refine pk_eq h 5 (fun z5 => ?_) (fun z5 => ⟨pk_in r 5 hr, ?_⟩)
    · refine qw_meet190 hs hy ?_
      have := K [] a8 (upd a9 s (nI (if y = 4 then 5 else y))) a10 a12 (by simp [qc_e, z, z5]) (qc_U_r _ _) (qc_U_u _ _ _) (by rw [m8]; simp [qc_b, z, z5]) (by rw [pk_us]; simp [qc_h, z]) (qc_U_r _ _) (by rw [List.take_nil]; exact m10) (by rw [List.take_nil, List.append_nil]; exact hG)
      rw [List.take_nil, List.append_nil] at this
      exact this
    · have K1 : ¬ (h = qc_x ρ ∧ qc_ab ρ b y = true) → wX_meet_143 post (nI s) (nI y) (nI r) (nI h) fr fs fl fc (nI G.length) fe fw ff fa a1 a2 a3 a4 a5 a6 a7 a8 a9 a10 a11 a12 a13 a14 a15 a16 a17 a18 := by
        intro hn
        refine qw_meet143 hs hy (by omega) m10 v4 hG (by omega) (fun b10 b12 u e g => ?_)
        exact K [h] _ _ b10 b12 (by simp only [qc_e, if_neg z, if_neg z5, if_neg hn]) (qc_U_u _ _ _) (qc_U_u _ _ _) (by rw [pk_us]; simp [qc_b, z, z5]) (by rw [pk_us]; simp [qc_h, z]) u e g
      have hx4 : qc_x ρ < 4 := Nat.mod_lt _ (by decide)
      refine pk_eq h (qc_x ρ) (fun zx => ⟨pk_in r 5 hr, pk_in s 5 hs, ?_⟩) (fun zx => K1 (fun t => zx t.1))
      refine qw_allows hl32 (by omega) (qw_brb (fun f1 => K1 (fun t => by have := t.2; unfold qc_ab at this; rw [f1] at this; exact absurd this (by simp))) (fun f1 => ⟨pk_in r 5 hr, qw_allows hr32 (by omega) (qw_brb (fun f2 => K1 (fun t => by have := t.2; unfold qc_ab at this; rw [f2] at this; exact absurd this (by simp))) (fun f2 => ?_))⟩))
      refine qw_meet144 hs hy (by omega) m10 v4 hG (by omega) hr hR' (fun b10 b12 u e g => ?_)
      have hp : h = qc_x ρ ∧ qc_ab ρ b y = true := ⟨zx, by unfold qc_ab; rw [f1, f2]; rfl⟩
      exact K _ _ _ b10 b12 (by simp only [qc_e, if_neg z, if_neg z5, if_pos hp]) (qc_U_u _ _ _) (qc_U_u _ _ _) (by rw [pk_us]; simp [qc_b, z, z5]) (by rw [pk_us]; simp [qc_h, z]) u e g
end
section
/-! Letters pass one rule; a symbol goes through the whole line. -/
theorem qw_exch {post : St2 → Prop} {fr fs fl fc fe fw ff fa : Int32} {a1 a2 a3 a4 a5 a6 a7 a8 a9 a10 a11 a12 a13 a15 a17 a18 : (Nat → Int32)} {a14 a16 : (Nat → Int64)} {G : List Nat} (hG : qc_A a12 G) (hg : G.length ≤ 80) (h4 : ∀ v, v ∈ G → v < 4)
    (H : ∀ b11 : Nat → Int32, qc_A b11 G → post (fr, fs, fl, nI G.length, nI G.length, fe, fw, ff, fa, a1, a2, a3, a4, a5, a6, a7, a8, a9, a10, b11, a12, a13, a14, a15, a16, a17, a18)) : wpX_exchangeWays post (fr, fs, fl, fc, nI G.length, fe, fw, ff, fa, a1, a2, a3, a4, a5, a6, a7, a8, a9, a10, a11, a12, a13, a14, a15, a16, a17, a18) := by
  unfold wpX_exchangeWays
  refine pk_loop (fun n i s => wX_exchangeWays_2 post fr fs fl fc (nI G.length) fe fw ff fa n (nI i) a1 a2 a3 a4 a5 a6 a7 a8 a9 a10 s a12 a13 a14 a15 a16 a17 a18) (fun i s => qc_A s (G.take i)) G.length 0 a11 (by omega) (qc_A_0 _) (fun n s h => ?_) (fun n i s hi h hw => ?_)
  · refine pk_le G.length G.length (fun _ => H s ?_) (fun z => absurd z (by omega))
    rw [List.take_length] at h
    exact h
  · obtain ⟨v, e1, e2, e3, e4⟩ := qc_A_get hi
    refine pk_le G.length i (fun z => absurd z (by omega)) (fun _ => ⟨pk_in i 80 (by omega), pk_in i 80 (by omega), nm_r (e' := upd s (G.take i).length (nI v)) ?_ (nm_r (nI_1 i) (hw _ ?_))⟩)
    · have := h4 v e2
      rw [nI_clamp (by omega), hG i v e1, qn_nar (by omega), List.length_take, Nat.min_eq_left (by omega)]
    · rw [e4]
      exact qc_A_s h
theorem qw_pass {post : St2 → Prop} {fr fs fl fg fe fw ff fa : Int32} {a1 a2 a3 a4 a5 a6 a7 a8 a9 a10 a11 a12 a13 a15 a17 a18 : (Nat → Int32)} {a14 a16 : (Nat → Int64)} {s r ρ : Nat} {m : qc_Mem} {c e : List Nat} {x2 : Int32} (hs : s < 5) (hr : r < 5) (h7 : a7 s = nI r) (hR : qc_Ru a1 a2 a3 a4 a5 r ρ) (hm : qc_V m) (hM : qc_Me a8 a9 a10 s m)
    (hc : qc_A a11 c) (hl : c.length ≤ 12) (h4 : ∀ v, v ∈ c → v < 4) (he : (x2 = 0 ∧ e = []) ∨ (x2 = 1 ∧ e = [4]))
    (H : ∀ (fg' : Int32) (b8 b9 b10 b11 b12 : Nat → Int32), qc_U a8 b8 s → qc_U a9 b9 s → qc_U a10 b10 s → qc_Me b8 b9 b10 s (qc_ms ρ m (c ++ e)) → qc_A b11 (qc_os ρ m (c ++ e)) → post (fr, fs, fl, nI (qc_os ρ m (c ++ e)).length, fg', fe, fw, ff, fa, a1, a2, a3, a4, a5, a6, a7, b8, b9, b10, b11, b12, a13, a14, a15, a16, a17, a18)) :
    wpX_passRule post (fr, fs, fl, nI c.length, fg, fe, fw, ff, fa, a1, a2, a3, a4, a5, a6, a7, a8, a9, a10, a11, a12, a13, a14, a15, a16, a17, a18) (nI s) x2 := by
  unfold wpX_passRule
  have hle : ∀ v, v ∈ c → v ≤ 4 := fun v hv => Nat.le_of_lt (h4 v hv)
  have htk : ∀ i v, v ∈ c.take i → v ≤ 4 := fun i v hv => hle v (List.mem_of_mem_take hv)
  refine pk_loop (σ := Int32 × (Nat → Int32) × (Nat → Int32) × (Nat → Int32) × (Nat → Int32)) (fun n i t => wX_passRule_7 post (nI s) x2 n (nI i) fr fs fl (nI c.length) t.1 fe fw ff fa a1 a2 a3 a4 a5 a6 a7 t.2.1 t.2.2.1 t.2.2.2.1 a11 t.2.2.2.2 a13 a14 a15 a16 a17 a18)
    (fun i t => t.1 = nI (qc_os ρ m (c.take i)).length ∧ qc_U a8 t.2.1 s ∧ qc_U a9 t.2.2.1 s ∧ qc_U a10 t.2.2.2.1 s ∧ qc_Me t.2.1 t.2.2.1 t.2.2.2.1 s (qc_ms ρ m (c.take i)) ∧ qc_A t.2.2.2.2 (qc_os ρ m (c.take i)))
    c.length 0 (0, a8, a9, a10, a12) (by omega) ⟨rfl, qc_U_r _ _, qc_U_r _ _, qc_U_r _ _, hM, qc_A_0 _⟩ (fun n t h => ?_) (fun n i t hi h hw => ?_)
  · obtain ⟨g, b8, b9, b10, b12⟩ := t
    obtain ⟨e1, u8, u9, u10, me, ga⟩ := h
    dsimp only at e1 u8 u9 u10 me ga ⊢
    rw [List.take_length] at e1 me ga
    subst e1
    have hV := qc_V_ms (ρ := ρ) c m hm hle
    have hol := qc_os_len (ρ := ρ) hm hle
    refine pk_le c.length c.length (fun _ => ?_) (fun z => absurd z (by omega))
    rcases he with ⟨hx, he⟩ | ⟨hx, he⟩
    · subst hx he
      rw [List.append_nil] at H
      refine br_t rfl ?_
      unfold wX_passRule_42
      exact qw_exch ga (by omega) (qc_os_lt c m hm hle) (fun b11 g11 => H _ b8 b9 b10 b11 b12 u8 u9 u10 me g11)
    · subst hx he
      rw [qc_ms_app, qc_os_app] at H
      refine br_f (by decide) ?_
      refine qw_meet (y := 4) hs (Nat.le_refl 4) hr h7 hR hV me ga (by omega) (fun c8 c9 c10 c12 w8 w9 w10 me' ga' => ?_)
      have ga2 : qc_A c12 (qc_os ρ m c ++ qc_os ρ (qc_ms ρ m c) [4]) := by
        rw [qc_os_cons, qc_os_nil, List.append_nil]
        exact ga'
      have e2 : qc_os ρ (qc_ms ρ m c) [4] = qc_o ρ (qc_ms ρ m c) 4 := by rw [qc_os_cons, qc_os_nil, List.append_nil]
      rw [e2] at H
      have hln := qc_o_len2 ρ (qc_ms ρ m c) 4
      unfold wX_passRule_42
      refine qw_exch ga' (by rw [List.length_append]; omega) (fun v hv => ?_) (fun b11 g11 => H _ c8 c9 c10 b11 c12 (qc_U_t u8 w8) (qc_U_t u9 w9) (qc_U_t u10 w10) me' g11)
      rcases List.mem_append.mp hv with z | z
      · exact qc_os_lt c m hm hle v z
      · exact qc_o_lt hV (Nat.le_refl 4) v z
  · obtain ⟨g, b8, b9, b10, b12⟩ := t
    obtain ⟨e1, u8, u9, u10, me, ga⟩ := h
    dsimp only at e1 u8 u9 u10 me ga ⊢
    subst e1
    obtain ⟨v, f1, f2, f3, f4⟩ := qc_A_get hi
    have hv := h4 v f2
    have hV := qc_V_ms (ρ := ρ) (c.take i) m hm (htk i)
    have hol := qc_os_len (ρ := ρ) hm (htk i)
    refine pk_le c.length i (fun z => absurd z (by omega)) (fun _ => ⟨pk_in i 80 (by omega), ?_⟩)
    rw [nI_clamp (show i < 2 ^ 31 by omega), hc i v f1]
    refine qw_meet (y := v) hs (by omega) hr h7 hR hV me ga (by omega) (fun c8 c9 c10 c12 w8 w9 w10 me' ga' => nm_r (nI_1 i) ?_)
    have em : qc_ms ρ m (c.take (i + 1)) = qc_m ρ (qc_ms ρ m (c.take i)) v := by rw [f4, qc_ms_app]; rfl
    have eo : qc_os ρ m (c.take (i + 1)) = qc_os ρ m (c.take i) ++ qc_o ρ (qc_ms ρ m (c.take i)) v := by rw [f4, qc_os_app, qc_os_cons, qc_os_nil, List.append_nil]
    refine hw (nI (qc_os ρ m (c.take i) ++ qc_o ρ (qc_ms ρ m (c.take i)) v).length, c8, c9, c10, c12) ⟨?_, qc_U_t u8 w8, qc_U_t u9 w9, qc_U_t u10 w10, ?_, ?_⟩
    · dsimp only
      rw [eo]
    · rw [em]; exact me'
    · rw [eo]; exact ga'
theorem qw_wr {b : Bool} : narrow .boolean (.int (qn_w b)) = .int (qn_w b) ∧ fits .boolean (.int (qn_w b)) = true := by
  cases b <;> exact ⟨rfl, rfl⟩
/-- what came out is kept and held against the word -/
theorem qw_out {post : St2 → Prop} {fr fl fg ff fa : Int32} {a1 a2 a3 a4 a5 a6 a7 a8 a9 a10 a11 a12 a13 a15 a17 a18 : (Nat → Int32)} {a14 a16 : (Nat → Int64)} {r : Nat} {w : Bool} {c W : List Nat} (hc : qc_A a11 c) (h4 : ∀ v, v ∈ c → v < 4) (hl : r + c.length ≤ 12) (hW : qc_A a6 W) (hWl : W.length ≤ 12) (hW4 : ∀ v, v ∈ W → v < 4)
    (H : ∀ b13 : Nat → Int32, (∀ O : List Nat, O.length = r → qc_A a13 O → qc_A b13 (O ++ c)) → post (fr, nI W.length, fl, nI c.length, fg, nI (r + c.length), qn_w (w && qc_ck W r c), ff, fa, a1, a2, a3, a4, a5, a6, a7, a8, a9, a10, a11, a12, b13, a14, a15, a16, a17, a18)) :
    ∃ n, wX_feed_56 post fr (nI W.length) fl (nI c.length) fg ff fa n 0 (nI r) (qn_w w) a1 a2 a3 a4 a5 a6 a7 a8 a9 a10 a11 a12 a13 a14 a15 a16 a17 a18 := by
  refine pk_loop (σ := Int32 × Int32 × (Nat → Int32)) (fun n i t => wX_feed_56 post fr (nI W.length) fl (nI c.length) fg ff fa n (nI i) t.1 t.2.1 a1 a2 a3 a4 a5 a6 a7 a8 a9 a10 a11 a12 t.2.2 a14 a15 a16 a17 a18)
    (fun i t => t.1 = nI (r + i) ∧ (∃ u : Bool, t.2.1 = qn_w u ∧ (u && qc_ck W (r + i) (c.drop i)) = (w && qc_ck W r c)) ∧ ∀ O : List Nat, O.length = r → qc_A a13 O → qc_A t.2.2 (O ++ c.take i))
    c.length 0 (nI r, qn_w w, a13) (by omega) ⟨rfl, ⟨w, rfl, rfl⟩, fun O _ h => by rw [List.take_zero, List.append_nil]; exact h⟩ (fun n t h => ?_) (fun n i t hi h hw => ?_)
  · obtain ⟨x, y, z⟩ := t
    obtain ⟨e1, ⟨u, e2, e3⟩, e4⟩ := h
    dsimp only at e1 e2 e3 e4 ⊢
    rw [List.drop_length, qc_ck_0, Bool.and_true] at e3
    rw [List.take_length] at e4
    subst e1 e2 e3
    exact pk_le c.length c.length (fun _ => H z e4) (fun z => absurd z (by omega))
  · obtain ⟨x, y, z⟩ := t
    obtain ⟨e1, ⟨u, e2, e3⟩, e4⟩ := h
    dsimp only at e1 e2 e3 e4 ⊢
    obtain ⟨v, f1, f2, f3, f4⟩ := qc_A_get hi
    have hv := h4 v f2
    rw [f3, qc_ck_s] at e3
    subst e1 e2
    have hA : ∀ O : List Nat, O.length = r → qc_A a13 O → qc_A (upd z (r + i) (nI v)) (O ++ c.take (i + 1)) := by
      intro O hO ha
      have := qc_A_s (x := v) (e4 O hO ha)
      rw [List.length_append, List.length_take, Nat.min_eq_left (by omega), hO, List.append_assoc] at this
      rw [f4]
      exact this
    have step : ∀ b : Bool, (b && qc_ck W (r + (i + 1)) (c.drop (i + 1))) = (w && qc_ck W r c) → wX_feed_130 post (wX_feed_56 post fr (nI W.length) fl (nI c.length) fg ff fa n) (nI i) (qn_w b) fr (nI W.length) fl (nI c.length) fg (nI (r + i)) (qn_w u) ff fa a1 a2 a3 a4 a5 a6 a7 a8 a9 a10 a11 a12 (upd z (r + i) (nI v)) a14 a15 a16 a17 a18 := by
      intro b hb
      unfold wX_feed_130
      exact ⟨qw_wr.1, qw_wr.2, nm_r (nI_1 _) (nm_r (nI_1 i) (hw (nI (r + (i + 1)), qn_w b, _) ⟨rfl, ⟨b, rfl, hb⟩, hA⟩))⟩
    have step0 : (u && W[r + i]? == some v) = false → wX_feed_129 post (wX_feed_56 post fr (nI W.length) fl (nI c.length) fg ff fa n) (nI i) fr (nI W.length) fl (nI c.length) fg (nI (r + i)) (qn_w u) ff fa a1 a2 a3 a4 a5 a6 a7 a8 a9 a10 a11 a12 (upd z (r + i) (nI v)) a14 a15 a16 a17 a18 := by
      intro hu
      unfold wX_feed_129
      refine step false ?_
      rw [← e3, ← Bool.and_assoc, hu, Bool.false_and, Bool.false_and]
    refine pk_le c.length i (fun z => absurd z (by omega)) (fun _ => pk_le 12 (r + i) (fun z => absurd z (by omega)) (fun _ => ⟨pk_in i 80 (by omega), pk_in (r + i) 12 (by omega), nm_r (e' := upd z (r + i) (nI v)) ?_ (qw_brb (fun hu => step0 (by rw [hu]; rfl)) (fun hu => ?_))⟩))
    · rw [nI_clamp (by omega), nI_clamp (by omega), hc i v f1, qn_nar (by omega)]
    · refine pk_le W.length (r + i) (fun z => step0 ?_) (fun z => ⟨pk_in (r + i) 12 (by omega), pk_in i 80 (by omega), ?_⟩)
      · rw [List.getElem?_eq_none z, hu]
        rfl
      · obtain ⟨x, g1, g2, g3, g4⟩ := qc_A_get z
        have hx := hW4 x g2
        rw [nI_clamp (show i < 2 ^ 31 by omega), nI_clamp (show r + i < 2 ^ 31 by omega), hc i v f1, hW _ x g1]
        refine pk_eq x v (fun zz => step true ?_) (fun zz => step0 ?_)
        · rw [← e3, hu, g1, zz, ← Bool.and_assoc]
          simp [Nat.add_assoc]
        · rw [hu, g1]
          simp [zz]
theorem qw_feed {post : St2 → Prop} {fr fc fg ff fa : Int32} {a1 a2 a3 a4 a5 a6 a7 a8 a9 a10 a11 a12 a13 a15 a17 a18 : (Nat → Int32)} {a14 a16 : (Nat → Int64)} {k r x : Nat} {w : Bool} {ρ : Nat → Nat} {m : Nat → qc_Mem} {e p W : List Nat} (hL : qc_L a1 a2 a3 a4 a5 a7 ρ k) (hm : ∀ s, qc_V (m s)) (hM : ∀ s, s < k → qc_Me a8 a9 a10 s (m s))
    (hx : (x < 4 ∧ p = [x] ∧ e = []) ∨ (x = 4 ∧ p = [] ∧ e = [4])) (hl : r + (qc_fl ρ m e p k).length ≤ 12) (hW : qc_A a6 W) (hWl : W.length ≤ 12) (hW4 : ∀ v, v ∈ W → v < 4)
    (H : ∀ (fc' fg' : Int32) (b8 b9 b10 b11 b12 b13 : Nat → Int32), (∀ s, s < k → qc_Me b8 b9 b10 s (qc_fm ρ m e p s)) → (∀ O : List Nat, O.length = r → qc_A a13 O → qc_A b13 (O ++ qc_fl ρ m e p k)) →
      post (fr, nI W.length, nI k, fc', fg', nI (r + (qc_fl ρ m e p k).length), qn_w (w && qc_ck W r (qc_fl ρ m e p k)), ff, fa, a1, a2, a3, a4, a5, a6, a7, b8, b9, b10, b11, b12, b13, a14, a15, a16, a17, a18)) :
    wpX_feed post (fr, nI W.length, nI k, fc, fg, nI r, qn_w w, ff, fa, a1, a2, a3, a4, a5, a6, a7, a8, a9, a10, a11, a12, a13, a14, a15, a16, a17, a18) (nI x) := by
  obtain ⟨hk5, hL⟩ := hL
  have hp4 : ∀ v, v ∈ p → v < 4 := by
    rcases hx with ⟨h1, h2, h3⟩ | ⟨h1, h2, h3⟩
    · intro v hv; rw [h2, List.mem_singleton] at hv; omega
    · intro v hv; rw [h2] at hv; exact absurd hv List.not_mem_nil
  have he4 : ∀ v, v ∈ e → v ≤ 4 := by
    rcases hx with ⟨h1, h2, h3⟩ | ⟨h1, h2, h3⟩
    · intro v hv; rw [h3] at hv; exact absurd hv List.not_mem_nil
    · rw [h3]; exact qc_4
  have hpl : p.length ≤ 12 := by
    rcases hx with ⟨h1, h2, h3⟩ | ⟨h1, h2, h3⟩
    · rw [h2]; exact (by decide : 1 ≤ 12)
    · rw [h2]; exact (by decide : 0 ≤ 12)
  have hfl := fun s => qc_fl_lt (ρ := ρ) hm he4 hp4 s
  have hfn := fun s => qc_fl_len (ρ := ρ) hm he4 hp4 hpl s
  have main : ∀ (b11 : Nat → Int32), qc_A b11 p → ∃ n, wX_feed_25 post (nI x) n 0 fr (nI W.length) (nI k) (nI p.length) fg (nI r) (qn_w w) ff fa a1 a2 a3 a4 a5 a6 a7 a8 a9 a10 b11 a12 a13 a14 a15 a16 a17 a18 := by
    intro b11 hb11
    refine pk_loop (σ := Int32 × Int32 × (Nat → Int32) × (Nat → Int32) × (Nat → Int32) × (Nat → Int32) × (Nat → Int32)) (fun n i t => wX_feed_25 post (nI x) n (nI i) fr (nI W.length) (nI k) t.1 t.2.1 (nI r) (qn_w w) ff fa a1 a2 a3 a4 a5 a6 a7 t.2.2.1 t.2.2.2.1 t.2.2.2.2.1 t.2.2.2.2.2.1 t.2.2.2.2.2.2 a13 a14 a15 a16 a17 a18)
      (fun i t => t.1 = nI (qc_fl ρ m e p i).length ∧ (∀ j, j < i → qc_Me t.2.2.1 t.2.2.2.1 t.2.2.2.2.1 j (qc_fm ρ m e p j)) ∧ (∀ j, i ≤ j → j < k → qc_Me t.2.2.1 t.2.2.2.1 t.2.2.2.2.1 j (m j)) ∧ qc_A t.2.2.2.2.2.1 (qc_fl ρ m e p i))
      k 0 (nI p.length, fg, a8, a9, a10, b11, a12) (by omega) ⟨rfl, fun j hj => absurd hj (by omega), fun j _ hj => hM j hj, hb11⟩ (fun n t h => ?_) (fun n i t hi h hw => ?_)
    · obtain ⟨c, g, b8, b9, b10, b11, b12⟩ := t
      obtain ⟨e1, e2, e3, e4⟩ := h
      dsimp only at e1 e2 e3 e4 ⊢
      subst e1
      exact pk_le k k (fun _ => qw_out e4 (hfl k) hl hW hWl hW4 (fun b13 h13 => H _ _ _ _ _ _ _ b13 e2 h13)) (fun z => absurd z (by omega))
    · obtain ⟨c, g, b8, b9, b10, b11, b12⟩ := t
      obtain ⟨e1, e2, e3, e4⟩ := h
      dsimp only at e1 e2 e3 e4 ⊢
      subst e1
      obtain ⟨r', hr', h7, hR⟩ := hL i hi
      have step : ∀ x2 : Int32, ((x2 = 0 ∧ e = []) ∨ (x2 = 1 ∧ e = [4])) → wX_feed_45 post (wX_feed_25 post (nI x) n) (nI x) (nI i) x2 (nI i) fr (nI W.length) (nI k) (nI (qc_fl ρ m e p i).length) g (nI r) (qn_w w) ff fa a1 a2 a3 a4 a5 a6 a7 b8 b9 b10 b11 b12 a13 a14 a15 a16 a17 a18 := by
        intro x2 hx2
        unfold wX_feed_45
        refine qw_pass (s := i) (by omega) hr' h7 hR (hm i) (e3 i (Nat.le_refl i) hi) e4 (hfn i) (hfl i) hx2 (fun g' c8 c9 c10 c11 c12 u8 u9 u10 me ga => nm_r (nI_1 i) ?_)
        refine hw (_, g', c8, c9, c10, c11, c12) ⟨rfl, fun j hj => ?_, fun j h1 h2 => ?_, ga⟩
        · by_cases z : j = i
          · rw [z]; exact me
          · exact qc_Me_U u8 u9 u10 z (e2 j (by omega))
        · exact qc_Me_U u8 u9 u10 (by omega) (e3 j (by omega) h2)
      refine pk_le k i (fun z => absurd z (by omega)) (fun _ => ?_)
      rcases hx with ⟨h1, h2, h3⟩ | ⟨h1, h2, h3⟩
      · exact pk_eq x 4 (fun z => absurd z (by omega)) (fun _ => step 0 (Or.inl ⟨rfl, h3⟩))
      · exact pk_eq x 4 (fun _ => step 1 (Or.inr ⟨rfl, h3⟩)) (fun z => absurd h1 z)
  unfold wpX_feed
  rcases hx with ⟨h1, h2, h3⟩ | ⟨h1, h2, h3⟩
  · refine pk_eq x 4 (fun z => absurd z (by omega)) (fun _ => nm_r (e' := upd a11 0 (nI x)) (by rw [qn_b x (by omega)]) ?_)
    have := main (upd a11 0 (nI x)) (by rw [h2]; exact qc_A_s (c := []) (qc_A_0 a11))
    rw [h2] at this
    exact this
  · refine pk_eq x 4 (fun _ => ?_) (fun z => absurd h1 z)
    have := main a11 (by rw [h2]; exact qc_A_0 a11)
    rw [h2] at this
    exact this
end
section
/-! Runs: begin, the line, a word, a number; pack and unpack. -/
theorem qn_sub1 (x : Int32) : x + (-1) = x - 1 := by rw [Int32.sub_eq_add_neg]
theorem qn_neg1 : (nI 0 - 1 : Int32) < 0 := by decide
/-- the rules that are kept -/
def qc_Rs (a1 a2 a3 a4 a5 : Nat → Int32) (ρ : Nat → Nat) (R : Nat) : Prop := R ≤ 5 ∧ ∀ r, r < R → qc_Ru a1 a2 a3 a4 a5 r (ρ r)
/-- the word -/
def qc_Wd (a6 : Nat → Int32) (W : List Nat) : Prop := qc_A a6 W ∧ W.length ≤ 12 ∧ ∀ v, v ∈ W → v < 4
theorem qw_use {post : St2 → Prop} {fr fs fl fc fg fe fw ff fa : Int32} {a1 a2 a3 a4 a5 a6 a7 a8 a9 a10 a11 a12 a13 a15 a17 a18 : (Nat → Int32)} {a14 a16 : (Nat → Int64)} {k : Nat} (hk : k ≤ 5) (H : ∀ b7 : Nat → Int32, (∀ s, s < k → b7 s = nI s) → post (fr, fs, nI k, fc, fg, fe, fw, ff, fa, a1, a2, a3, a4, a5, a6, b7, a8, a9, a10, a11, a12, a13, a14, a15, a16, a17, a18)) : wpX_useFirst post (fr, fs, fl, fc, fg, fe, fw, ff, fa, a1, a2, a3, a4, a5, a6, a7, a8, a9, a10, a11, a12, a13, a14, a15, a16, a17, a18) (nI k) := by
  unfold wpX_useFirst
  refine pk_loop (fun n i t => wX_useFirst_7 post (nI k) fr fs (nI k) fc fg fe fw ff fa n (nI i) a1 a2 a3 a4 a5 a6 t a8 a9 a10 a11 a12 a13 a14 a15 a16 a17 a18) (fun i t => ∀ s, s < i → t s = nI s) k 0 a7 (by omega) (fun s h => absurd h (by omega)) (fun n t h => ?_) (fun n i t hi h hw => ?_)
  · exact pk_le k k (fun _ => H t h) (fun z => absurd z (by omega))
  · refine pk_le k i (fun z => absurd z (by omega)) (fun _ => ⟨pk_in i 5 (by omega), nm_r (e' := upd t i (nI i)) (by rw [nI_clamp (by omega), qn_b i (by omega)]) (nm_r (nI_1 i) (hw _ (fun s hs => ?_)))⟩)
    by_cases z : s = i
    · rw [z, pk_us]
    · rw [pk_un z]; exact h s (by omega)
theorem qc_L_of {a1 a2 a3 a4 a5 b7 : Nat → Int32} {ρ : Nat → Nat} {R k : Nat} (hR : qc_Rs a1 a2 a3 a4 a5 ρ R) (hk : k ≤ R) (h : ∀ s, s < k → b7 s = nI s) : qc_L a1 a2 a3 a4 a5 b7 ρ k :=
  ⟨Nat.le_trans hk hR.1, fun s hs => ⟨s, by have := hR.1; omega, h s hs, hR.2 s (by omega)⟩⟩
theorem qw_begin {post : St2 → Prop} {fr fs fl fc fg fe fw ff fa : Int32} {a1 a2 a3 a4 a5 a6 a7 a8 a9 a10 a11 a12 a13 a15 a17 a18 : (Nat → Int32)} {a14 a16 : (Nat → Int64)} (H : ∀ b8 b9 b10 : Nat → Int32, (∀ s, s < 5 → qc_Me b8 b9 b10 s (4, 5, 0)) → post (fr, fs, fl, fc, fg, nI 0, qn_w true, ff, fa, a1, a2, a3, a4, a5, a6, a7, b8, b9, b10, a11, a12, a13, a14, a15, a16, a17, a18)) : wpX_begin post (fr, fs, fl, fc, fg, fe, fw, ff, fa, a1, a2, a3, a4, a5, a6, a7, a8, a9, a10, a11, a12, a13, a14, a15, a16, a17, a18) := by
  unfold wpX_begin
  refine pk_loop (σ := (Nat → Int32) × (Nat → Int32) × (Nat → Int32)) (fun n i t => wX_begin_2 post fr fs fl fc fg fe fw ff fa n (nI i) a1 a2 a3 a4 a5 a6 a7 t.1 t.2.1 t.2.2 a11 a12 a13 a14 a15 a16 a17 a18) (fun i t => ∀ s, s < i → qc_Me t.1 t.2.1 t.2.2 s (4, 5, 0)) 5 0 (a8, a9, a10) (by omega) (fun s h => absurd h (by omega)) (fun n t h => ?_) (fun n i t hi h hw => ?_)
  · exact pk_le 5 5 (fun _ => H _ _ _ h) (fun z => absurd z (by omega))
  · refine pk_le 5 i (fun z => absurd z (by omega)) (fun _ => ⟨pk_in i 5 hi, nm_e ⟨pk_in i 5 hi, nm_e ⟨pk_in i 5 hi, nm_e (nm_r (nI_1 i) (hw (_, _, _) (fun s hs => ?_)))⟩⟩⟩)
    dsimp only
    rw [nI_clamp (show i < 2 ^ 31 by omega)]
    by_cases z : s = i
    · rw [z]
      exact ⟨pk_us, pk_us, pk_us⟩
    · exact qc_Me_U (qc_U_u _ _ _) (qc_U_u _ _ _) (qc_U_u _ _ _) z (h s (by omega))
/-- a letter, after the letters p -/
theorem qw_fH {post : St2 → Prop} {fr fc fg ff fa : Int32} {a1 a2 a3 a4 a5 a6 a7 a8 a9 a10 a11 a12 a13 a15 a17 a18 : (Nat → Int32)} {a14 a16 : (Nat → Int64)} {k x r0 : Nat} {w : Bool} {ρ : Nat → Nat} {p W : List Nat} (hL : qc_L a1 a2 a3 a4 a5 a7 ρ k) (hp : ∀ v, v ∈ p → v < 4) (hM : ∀ s, s < k → qc_Me a8 a9 a10 s (qc_M ρ p s))
    (hx : x < 4) (hl : p.length + 1 ≤ 12) (hW : qc_Wd a6 W) (hr : r0 ≤ (qc_O ρ k p).length) (ha : qc_ag W r0 (qc_O ρ k p) = true)
    (H : ∀ (fc' : Int32) (fg' : Int32) (a8' : (Nat → Int32)) (a9' : (Nat → Int32)) (a10' : (Nat → Int32)) (a11' : (Nat → Int32)) (a12' : (Nat → Int32)) (a13' : (Nat → Int32)), (∀ s, s < k → qc_Me a8' a9' a10' s (qc_M ρ (p ++ [x]) s)) → (qc_A a13 (qc_O ρ k p) → qc_A a13' (qc_O ρ k (p ++ [x]))) →
      post (fr, nI W.length, nI k, fc', fg', nI (qc_O ρ k (p ++ [x])).length, qn_w (w && qc_ag W r0 (qc_O ρ k (p ++ [x]))), ff, fa, a1, a2, a3, a4, a5, a6, a7, a8', a9', a10', a11', a12', a13', a14, a15, a16, a17, a18)) :
    wpX_feed post (fr, nI W.length, nI k, fc, fg, nI (qc_O ρ k p).length, qn_w w, ff, fa, a1, a2, a3, a4, a5, a6, a7, a8, a9, a10, a11, a12, a13, a14, a15, a16, a17, a18) (nI x) := by
  have hp' : ∀ v, v ∈ p ++ [x] → v < 4 := fun v hv => by
    rcases List.mem_append.mp hv with z | z
    · exact hp v z
    · rw [List.mem_singleton] at z; omega
  have hlen : (qc_O ρ k (p ++ [x])).length ≤ 12 := qc_O_len k hp' (by rw [List.length_append]; exact hl)
  have ea : qc_ag W r0 (qc_O ρ k (p ++ [x])) = qc_ck W (qc_O ρ k p).length (qc_fl ρ (qc_M ρ p) [] [x] k) := by
    rw [qc_O_app, qc_ag_app hr, ha, Bool.true_and]
  rw [ea] at H
  rw [qc_O_app] at H hlen
  rw [List.length_append] at H hlen
  refine qw_feed (p := [x]) (e := []) hL (qc_M_V hp) hM (Or.inl ⟨hx, rfl, rfl⟩) hlen hW.1 hW.2.1 hW.2.2 (fun fc' fg' a8' a9' a10' a11' a12' a13' h1 h2 => H fc' fg' a8' a9' a10' a11' a12' a13' (fun s hs => ?_) (fun h => h2 _ rfl h))
  rw [← qc_M_app]
  exact h1 s hs
/-- the edge, after the letters p -/
theorem qw_fE {post : St2 → Prop} {fr fc fg ff fa : Int32} {a1 a2 a3 a4 a5 a6 a7 a8 a9 a10 a11 a12 a13 a15 a17 a18 : (Nat → Int32)} {a14 a16 : (Nat → Int64)} {k r0 : Nat} {w : Bool} {ρ : Nat → Nat} {p W : List Nat} (hL : qc_L a1 a2 a3 a4 a5 a7 ρ k) (hp : ∀ v, v ∈ p → v < 4) (hM : ∀ s, s < k → qc_Me a8 a9 a10 s (qc_M ρ p s))
    (hl : p.length ≤ 12) (hW : qc_Wd a6 W) (hr : r0 ≤ (qc_O ρ k p).length) (ha : qc_ag W r0 (qc_O ρ k p) = true)
    (H : ∀ (fc' : Int32) (fg' : Int32) (a8' : (Nat → Int32)) (a9' : (Nat → Int32)) (a10' : (Nat → Int32)) (a11' : (Nat → Int32)) (a12' : (Nat → Int32)) (a13' : (Nat → Int32)), (qc_A a13 (qc_O ρ k p) → qc_A a13' (qc_R ρ k p)) →
      post (fr, nI W.length, nI k, fc', fg', nI (qc_R ρ k p).length, qn_w (w && qc_ag W r0 (qc_R ρ k p)), ff, fa, a1, a2, a3, a4, a5, a6, a7, a8', a9', a10', a11', a12', a13', a14, a15, a16, a17, a18)) :
    wpX_feed post (fr, nI W.length, nI k, fc, fg, nI (qc_O ρ k p).length, qn_w w, ff, fa, a1, a2, a3, a4, a5, a6, a7, a8, a9, a10, a11, a12, a13, a14, a15, a16, a17, a18) 4 := by
  have hlen : (qc_R ρ k p).length ≤ 12 := qc_R_len k hp hl
  have ea : qc_ag W r0 (qc_R ρ k p) = qc_ck W (qc_O ρ k p).length (qc_fl ρ (qc_M ρ p) [4] [] k) := by
    rw [qc_R_O, qc_ag_app hr, ha, Bool.true_and]
  rw [ea] at H
  rw [qc_R_O] at H hlen
  rw [List.length_append] at H hlen
  exact qw_feed (p := []) (e := [4]) (x := 4) hL (qc_M_V hp) hM (Or.inr ⟨rfl, rfl, rfl⟩) hlen hW.1 hW.2.1 hW.2.2 (fun fc' fg' a8' a9' a10' a11' a12' a13' h1 h2 => H fc' fg' a8' a9' a10' a11' a12' a13' (fun h => h2 _ rfl h))
theorem qc_nil4 : ∀ v, v ∈ ([] : List Nat) → v < 4 := fun v hv => absurd hv List.not_mem_nil
theorem qw_start {a8 a9 a10 : Nat → Int32} {k : Nat} (ρ : Nat → Nat) (hk : k ≤ 5) (h : ∀ s, s < 5 → qc_Me a8 a9 a10 s (4, 5, 0)) : ∀ s, s < k → qc_Me a8 a9 a10 s (qc_M ρ [] s) := by
  intro s hs
  rw [qc_M_nil]
  exact h s (by omega)
theorem qw_runWord {post : St2 → Prop} {fr fl fc fg fe fw ff fa : Int32} {a1 a2 a3 a4 a5 a6 a7 a8 a9 a10 a11 a12 a13 a15 a17 a18 : (Nat → Int32)} {a14 a16 : (Nat → Int64)} {R k : Nat} {ρ : Nat → Nat} {W : List Nat} (hR : qc_Rs a1 a2 a3 a4 a5 ρ R) (hk : k ≤ R) (hW : qc_Wd a6 W)
    (H : ∀ (fw' : Int32) (fc' : Int32) (fg' : Int32) (a7' : (Nat → Int32)) (a8' : (Nat → Int32)) (a9' : (Nat → Int32)) (a10' : (Nat → Int32)) (a11' : (Nat → Int32)) (a12' : (Nat → Int32)) (a13' : (Nat → Int32)), qc_A a13' (qc_R ρ k W) → post (fr, nI W.length, nI k, fc', fg', nI (qc_R ρ k W).length, fw', ff, fa, a1, a2, a3, a4, a5, a6, a7', a8', a9', a10', a11', a12', a13', a14, a15, a16, a17, a18)) :
    wpX_runWord post (fr, nI W.length, fl, fc, fg, fe, fw, ff, fa, a1, a2, a3, a4, a5, a6, a7, a8, a9, a10, a11, a12, a13, a14, a15, a16, a17, a18) (nI k) := by
  unfold wpX_runWord
  have hk5 : k ≤ 5 := Nat.le_trans hk hR.1
  have h12 := hW.2.1
  refine qw_use hk5 (fun b7 h7 => qw_begin (fun b8 b9 b10 hb => ?_))
  have hL := qc_L_of hR hk h7
  refine pk_loop (σ := Int32 × Int32 × Int32 × Int32 × (Nat → Int32) × (Nat → Int32) × (Nat → Int32) × (Nat → Int32) × (Nat → Int32) × (Nat → Int32)) (fun n i t => wX_runWord_11 post n (nI i) fr (nI W.length) (nI k) t.1 t.2.1 t.2.2.1 t.2.2.2.1 ff fa a1 a2 a3 a4 a5 a6 b7 t.2.2.2.2.1 t.2.2.2.2.2.1 t.2.2.2.2.2.2.1 t.2.2.2.2.2.2.2.1 t.2.2.2.2.2.2.2.2.1 t.2.2.2.2.2.2.2.2.2 a14 a15 a16 a17 a18)
    (fun i t => (∀ s, s < k → qc_Me t.2.2.2.2.1 t.2.2.2.2.2.1 t.2.2.2.2.2.2.1 s (qc_M ρ (W.take i) s)) ∧ t.2.2.1 = nI (qc_O ρ k (W.take i)).length ∧ (∃ w, t.2.2.2.1 = qn_w w) ∧ qc_A t.2.2.2.2.2.2.2.2.2 (qc_O ρ k (W.take i)))
    W.length 0 (fc, fg, nI 0, qn_w true, b8, b9, b10, a11, a12, a13) (by omega) ⟨qw_start ρ hk5 hb, ?_, ⟨true, rfl⟩, ?_⟩ (fun n t h => ?_) (fun n i t hi h hw => ?_)
  · rw [List.take_zero, qc_O_nil]; rfl
  · rw [List.take_zero, qc_O_nil]; exact qc_A_0 _
  · obtain ⟨fc', fg', fe', fw', a8', a9', a10', a11', a12', a13'⟩ := t
    obtain ⟨h1, h2, ⟨w, h3⟩, h4⟩ := h
    dsimp only at h1 h2 h3 h4 ⊢
    subst h2 h3
    rw [List.take_length] at h1 h4 ⊢
    exact pk_le W.length W.length (fun _ => qw_fE hL hW.2.2 h1 h12 hW (Nat.le_refl _) (qc_ag_self _ _) (fun fc'' fg'' a8'' a9'' a10'' a11'' a12'' a13'' g => H _ fc'' fg'' b7 a8'' a9'' a10'' a11'' a12'' a13'' (g h4))) (fun z => absurd z (by omega))
  · obtain ⟨fc', fg', fe', fw', a8', a9', a10', a11', a12', a13'⟩ := t
    obtain ⟨h1, h2, ⟨w, h3⟩, h4⟩ := h
    dsimp only at h1 h2 h3 h4 ⊢
    subst h2 h3
    obtain ⟨v, f1, f2, f3, f4⟩ := qc_A_get hi
    have hv := hW.2.2 v f2
    refine pk_le W.length i (fun z => absurd z (by omega)) (fun _ => ⟨pk_in i 12 (by omega), ?_⟩)
    rw [nI_clamp (show i < 2 ^ 31 by omega), hW.1 i v f1]
    refine qw_fH hL (fun u hu => hW.2.2 u (List.mem_of_mem_take hu)) h1 hv (by rw [List.length_take]; omega) hW (Nat.le_refl _) (qc_ag_self _ _) (fun fc'' fg'' a8'' a9'' a10'' a11'' a12'' a13'' g1 g2 => nm_r (nI_1 i) (hw (_, _, _, _, _, _, _, _, _, _) ?_))
    rw [← f4] at g1 g2 ⊢
    exact ⟨g1, rfl, ⟨_, rfl⟩, g2 h4⟩
theorem qw_code {post : Int32 → Prop} {fr fs fl fc fg fw ff fa : Int32} {a1 a2 a3 a4 a5 a6 a7 a8 a9 a10 a11 a12 a13 a15 a17 a18 : (Nat → Int32)} {a14 a16 : (Nat → Int64)} {L : List Nat} (hl : L.length ≤ 12) (h13 : qc_A a13 L) (H : post (nI (qc_enc L))) : wpX_codeOfResult post (fr, fs, fl, fc, fg, nI L.length, fw, ff, fa, a1, a2, a3, a4, a5, a6, a7, a8, a9, a10, a11, a12, a13, a14, a15, a16, a17, a18) := by
  unfold wpX_codeOfResult
  refine pk_loop (σ := Int32) (fun n i t => wX_codeOfResult_4 post fr fs fl fc fg (nI L.length) fw ff fa a1 a2 a3 a4 a5 a6 a7 a8 a9 a10 a11 a12 a13 a14 a15 a16 a17 a18 n t (nI i)) (fun i t => t = nI (qc_enc (L.take i))) L.length 0 1 (by omega) rfl (fun n t h => ?_) (fun n i t hi h hw => ?_)
  · subst h
    rw [List.take_length]
    exact pk_le L.length L.length (fun _ => H) (fun z => absurd z (by omega))
  · subst h
    obtain ⟨v, f1, f2, f3, f4⟩ := qc_A_get hi
    refine pk_le L.length i (fun z => absurd z (by omega)) (fun _ => ⟨pk_in i 12 (by omega), nm_r (e' := nI (qc_enc (L.take (i + 1)))) ?_ (nm_r (nI_1 i) (hw _ rfl))⟩)
    rw [nI_clamp (show i < 2 ^ 31 by omega), h13 i v f1, qn_4m, f4, qc_enc_s]
theorem qw_runNumber {post : Int32 → St2 → Prop} {fr fc fg fe fw ff fa : Int32} {a1 a2 a3 a4 a5 a6 a7 a8 a9 a10 a11 a12 a13 a15 a17 a18 : (Nat → Int32)} {a14 a16 : (Nat → Int64)} {k n w : Nat} {ρ : Nat → Nat} {W : List Nat} (hL : qc_L a1 a2 a3 a4 a5 a7 ρ k) (hn : n ≤ 12) (hw31 : w < 2 ^ 31) (hW : qc_Wd a6 W)
    (H : ∀ (fc' : Int32) (fg' : Int32) (fe' : Int32) (fw' : Int32) (a8' : (Nat → Int32)) (a9' : (Nat → Int32)) (a10' : (Nat → Int32)) (a11' : (Nat → Int32)) (a12' : (Nat → Int32)) (a13' : (Nat → Int32)), post (nI (qc_enc (qc_R ρ k (qc_dg n w)))) (fr, nI W.length, nI k, fc', fg', fe', fw', ff, fa, a1, a2, a3, a4, a5, a6, a7, a8', a9', a10', a11', a12', a13', a14, a15, a16, a17, a18)) :
    wpX_runNumber post (fr, nI W.length, nI k, fc, fg, fe, fw, ff, fa, a1, a2, a3, a4, a5, a6, a7, a8, a9, a10, a11, a12, a13, a14, a15, a16, a17, a18) (nI w) (nI n) := by
  unfold wpX_runNumber
  refine qw_begin (fun b8 b9 b10 hb => nm_e ?_)
  refine ⟨n + 1, pk_loopD (σ := Int32 × Int32 × Int32 × Int32 × (Nat → Int32) × (Nat → Int32) × (Nat → Int32) × (Nat → Int32) × (Nat → Int32) × (Nat → Int32)) (fun f j t => wX_runNumber_8 post (nI w) f (nI j - 1) fr (nI W.length) (nI k) t.1 t.2.1 t.2.2.1 t.2.2.2.1 ff fa a1 a2 a3 a4 a5 a6 a7 t.2.2.2.2.1 t.2.2.2.2.2.1 t.2.2.2.2.2.2.1 t.2.2.2.2.2.2.2.1 t.2.2.2.2.2.2.2.2.1 t.2.2.2.2.2.2.2.2.2 a14 a15 a16 a17 a18)
    (fun j t => j ≤ n ∧ (∀ s, s < k → qc_Me t.2.2.2.2.1 t.2.2.2.2.2.1 t.2.2.2.2.2.2.1 s (qc_M ρ (qc_dg (n - j) (w / 4 ^ j)) s)) ∧ t.2.2.1 = nI (qc_O ρ k (qc_dg (n - j) (w / 4 ^ j))).length ∧ (∃ w, t.2.2.2.1 = qn_w w) ∧ qc_A t.2.2.2.2.2.2.2.2.2 (qc_O ρ k (qc_dg (n - j) (w / 4 ^ j))))
    (fun f t h => ?_) (fun f j t h hw => ?_) n (fc, fg, nI 0, qn_w true, b8, b9, b10, a11, a12, a13) ⟨Nat.le_refl n, ?_⟩⟩
  · obtain ⟨fc', fg', fe', fw', a8', a9', a10', a11', a12', a13'⟩ := t
    obtain ⟨_, h1, h2, ⟨w', h3⟩, h4⟩ := h
    dsimp only at h1 h2 h3 h4 ⊢
    subst h2 h3
    rw [Nat.sub_zero, Nat.pow_zero, Nat.div_one] at h1 h4 ⊢
    have hd := qc_dg_lt n w
    refine br_t qn_neg1 (qw_fE hL hd h1 (by rw [qc_dg_len]; exact hn) hW (Nat.le_refl _) (qc_ag_self _ _) (fun fc'' fg'' a8'' a9'' a10'' a11'' a12'' a13'' g => ?_))
    exact qw_code (qc_R_len k hd (by rw [qc_dg_len]; exact hn)) (g h4) (H _ _ _ _ _ _ _ _ _ _)
  · obtain ⟨fc', fg', fe', fw', a8', a9', a10', a11', a12', a13'⟩ := t
    obtain ⟨hj, h1, h2, ⟨w', h3⟩, h4⟩ := h
    dsimp only at h1 h2 h3 h4 ⊢
    subst h2 h3
    rw [nI_pred]
    refine br_f (nI_pos (by omega)) ?_
    rw [qn_dig hw31 (by omega)]
    refine qw_fH hL (qc_dg_lt _ _) h1 (Nat.mod_lt _ (by decide)) (by rw [qc_dg_len]; omega) hW (Nat.le_refl _) (qc_ag_self _ _) (fun fc'' fg'' a8'' a9'' a10'' a11'' a12'' a13'' g1 g2 => nm_r (qn_sub1 _) (hw (_, _, _, _, _, _, _, _, _, _) ?_))
    have e : qc_dg (n - (j + 1)) (w / 4 ^ (j + 1)) ++ [w / 4 ^ j % 4] = qc_dg (n - j) (w / 4 ^ j) := by
      rw [Nat.pow_succ, ← Nat.div_div_eq_div_mul, ← qc_dg_s, show n - (j + 1) + 1 = n - j by omega]
    rw [e] at g1 g2 ⊢
    exact ⟨by omega, g1, rfl, ⟨_, rfl⟩, g2 h4⟩
  · rw [Nat.sub_self, qc_dg_0]
    refine ⟨qw_start ρ hL.1 hb, ?_, ⟨true, rfl⟩, ?_⟩
    · rw [qc_O_nil]; rfl
    · rw [qc_O_nil]; exact qc_A_0 _
theorem qw_pack {post : Int64 → Prop} {fr fs fc fg fw ff fa : Int32} {a1 a2 a3 a4 a5 a6 a7 a8 a9 a10 a11 a12 a13 a15 a17 a18 : (Nat → Int32)} {a14 a16 : (Nat → Int64)} {k r : Nat} {m : Nat → qc_Mem} (hk : k ≤ 5) (hr : r ≤ 12) (hm : ∀ s, qc_V (m s)) (hM : ∀ s, s < k → qc_Me a8 a9 a10 s (m s)) (H : post (lN (qc_pk r m k))) : wpX_pack post (fr, fs, nI k, fc, fg, nI r, fw, ff, fa, a1, a2, a3, a4, a5, a6, a7, a8, a9, a10, a11, a12, a13, a14, a15, a16, a17, a18) := by
  unfold wpX_pack
  dsimp only
  rw [nI_l (show r < 2 ^ 31 by omega)]
  refine pk_loop (σ := Int64) (fun n i t => wX_pack_8 post fr fs (nI k) fc fg (nI r) fw ff fa a1 a2 a3 a4 a5 a6 a7 a8 a9 a10 a11 a12 a13 a14 a15 a16 a17 a18 n t (nI i)) (fun i t => t = lN (qc_pk r m i)) k 0 (lN r) (by omega) rfl (fun n t h => ?_) (fun n i t hi h hw => ?_)
  · subst h
    exact pk_le k k (fun _ => H) (fun z => absurd z (by omega))
  · subst h
    obtain ⟨m8, m9, m10⟩ := hM i hi
    obtain ⟨v1, v2, v3, v4⟩ := hm i
    have hcd := qc_cd_lt (hm i)
    have hlt := qc_pk_lt hr hm i
    have hpw : 1024 ^ i ≤ 1024 ^ 4 := Nat.pow_le_pow_right (by decide) (by omega)
    have e4 : (1024 : Nat) ^ 4 = 2 ^ 40 := by decide
    refine pk_le k i (fun z => absurd z (by omega)) (fun _ => ⟨pk_in i 5 (by omega), pk_in i 5 (by omega), pk_in i 5 (by omega), nm_r (e' := nI (qc_cd (m i))) ?_ (nm_r (e' := lN (qc_pk r m (i + 1))) ?_ (nm_r (nI_1 i) (hw _ rfl)))⟩)
    · rw [nI_clamp (show i < 2 ^ 31 by omega), m8, m9, m10]
      exact qn_pk _ (by omega) _ (by omega) _ (by omega)
    · rw [qn_lp hcd (by omega)]
      rfl
theorem qw_unpack {post : St2 → Prop} {fr fs fc fg fe fw ff fa : Int32} {a1 a2 a3 a4 a5 a6 a7 a8 a9 a10 a11 a12 a13 a15 a17 a18 : (Nat → Int32)} {a14 a16 : (Nat → Int64)} {k r : Nat} {m : Nat → qc_Mem} (hk : k ≤ 5) (hr : r ≤ 12) (hm : ∀ s, qc_V (m s))
    (H : ∀ b8 b9 b10 : Nat → Int32, (∀ s, s < k → qc_Me b8 b9 b10 s (m s)) → post (fr, fs, nI k, fc, fg, nI r, qn_w true, ff, fa, a1, a2, a3, a4, a5, a6, a7, b8, b9, b10, a11, a12, a13, a14, a15, a16, a17, a18)) : wpX_unpack post (fr, fs, nI k, fc, fg, fe, fw, ff, fa, a1, a2, a3, a4, a5, a6, a7, a8, a9, a10, a11, a12, a13, a14, a15, a16, a17, a18) (lN (qc_pk r m k)) := by
  unfold wpX_unpack
  refine nm_e ⟨k + 1, pk_loopD (σ := (Nat → Int32) × (Nat → Int32) × (Nat → Int32)) (fun f j t => wX_unpack_10 post fr fs (nI k) fc fg fe fw ff fa f (lN (qc_pk r m j)) (nI j - 1) a1 a2 a3 a4 a5 a6 a7 t.1 t.2.1 t.2.2 a11 a12 a13 a14 a15 a16 a17 a18)
    (fun j t => j ≤ k ∧ ∀ s, j ≤ s → s < k → qc_Me t.1 t.2.1 t.2.2 s (m s)) (fun f t h => ?_) (fun f j t h hw => ?_) k (a8, a9, a10) ⟨Nat.le_refl k, fun s h1 h2 => absurd h1 (by omega)⟩⟩
  · refine br_t qn_neg1 ?_
    have e : (lN (qc_pk r m 0)).toInt32 = nI r := lN_i r
    rw [e]
    exact H t.1 t.2.1 t.2.2 (fun s hs => h.2 s (Nat.zero_le s) hs)
  · obtain ⟨b8, b9, b10⟩ := t
    obtain ⟨hj, h⟩ := h
    dsimp only at h ⊢
    have hcd := qc_cd_lt (hm j)
    have h54 := qc_pk_54 hr hm (show j + 1 ≤ 5 by omega)
    obtain ⟨v1, v2, v3, v4⟩ := hm j
    have u := qn_up (qc_cd (m j)) hcd
    have d1 : qc_cd (m j) % 8 = (m j).1 := by unfold qc_cd; omega
    have d2 : qc_cd (m j) / 8 % 8 = (m j).2.1 := by unfold qc_cd; omega
    have d3 : qc_cd (m j) / 64 = (m j).2.2 := by unfold qc_cd; omega
    rw [d1, d2, d3] at u
    rw [nI_pred]
    refine br_f (nI_pos (by omega)) (nm_r (e' := nI (qc_cd (m j))) ?_ ⟨pk_in j 5 (by omega), nm_r (e' := upd b8 j (nI (m j).1)) ?_ ⟨pk_in j 5 (by omega), nm_r (e' := upd b9 j (nI (m j).2.1)) ?_ ⟨pk_in j 5 (by omega), nm_r (e' := upd b10 j (nI (m j).2.2)) ?_ (nm_r (e' := lN (qc_pk r m j)) ?_ (nm_r (qn_sub1 _) (hw (_, _, _) ⟨by omega, fun s h1 h2 => ?_⟩)))⟩⟩⟩)
    · rw [qn_lm (by omega), qc_pk_s]
      congr 1
      omega
    · rw [nI_clamp (by omega), u.1]
    · rw [nI_clamp (by omega), u.2.1]
    · rw [nI_clamp (by omega), u.2.2]
    · rw [qn_ls (by omega), qc_pk_s]
      congr 1
      omega
    · by_cases z : s = j
      · rw [z]
        exact ⟨pk_us, pk_us, pk_us⟩
      · exact qc_Me_U (qc_U_u _ _ _) (qc_U_u _ _ _) (qc_U_u _ _ _) z (h s (by omega) h2)
end
section
/-! The memories with their numbers: keepNext, oneMore, countFrom. -/
theorem qw_keepNext {post : St2 → Prop} {fr fs fl fc fg fe fw ff : Int32} {a1 a2 a3 a4 a5 a6 a7 a8 a9 a10 a11 a12 a13 a15 a17 a18 : (Nat → Int32)} {a14 a16 : (Nat → Int64)} {c : Nat} {P : Int64} {x : Int32} (hc : c < 1024)
    (H0 : ∀ i, i < c → a16 i = P → post (fr, fs, fl, fc, fg, fe, fw, ff, nI c, a1, a2, a3, a4, a5, a6, a7, a8, a9, a10, a11, a12, a13, a14, a15, a16, upd a17 i (a17 i + x), a18))
    (H1 : post (fr, fs, fl, fc, fg, fe, fw, ff, nI (c + 1), a1, a2, a3, a4, a5, a6, a7, a8, a9, a10, a11, a12, a13, a14, a15, vp_updL a16 c P, upd a17 c x, a18)) : wpX_keepNext post (fr, fs, fl, fc, fg, fe, fw, ff, nI c, a1, a2, a3, a4, a5, a6, a7, a8, a9, a10, a11, a12, a13, a14, a15, a16, a17, a18) P x := by
  unfold wpX_keepNext
  refine pk_loop (σ := Unit) (fun n i _ => wX_keepNext_3 post P x fr fs fl fc fg fe fw ff (nI c) a1 a2 a3 a4 a5 a6 a7 a8 a9 a10 a11 a12 a13 a14 a15 a16 a17 a18 n (nI i)) (fun _ _ => True) c 0 () (by omega) trivial (fun n t h => ?_) (fun n i t hi h hw => ?_)
  · refine pk_le c c (fun _ => ⟨pk_in c 1024 hc, nm_r (e' := vp_updL a16 c P) ?_ ⟨pk_in c 1024 hc, nm_r (e' := upd a17 c x) ?_ (nm_r (nI_1 c) H1)⟩⟩) (fun z => absurd z (by omega))
    · rw [nI_clamp (by omega)]
    · rw [nI_clamp (by omega)]
  · refine pk_le c i (fun z => absurd z (by omega)) (fun _ => ⟨pk_in i 1024 (by omega), ?_⟩)
    rw [nI_clamp (show i < 2 ^ 31 by omega)]
    exact br_c (fun e => ⟨pk_in i 1024 (by omega), pk_in i 1024 (by omega), nm_e (H0 i hi e)⟩) (fun _ => nm_r (nI_1 i) (hw () trivial))
/-- the table of memories: histories q, how many words mu -/
def qc_D (ρ : Nat → Nat) (k : Nat) (W : List Nat) (r0 t : Nat) (mem : Nat → Int64) (man : Nat → Int32) (F : Nat) (q : Nat → List Nat) (mu : Nat → Nat) : Prop :=
  ∀ i, i < F → mem i = lN (qc_P ρ k (q i)) ∧ man i = nI (mu i) ∧ (∀ v, v ∈ q i → v < 4) ∧ (q i).length = t ∧ r0 ≤ (qc_O ρ k (q i)).length ∧ qc_ag W r0 (qc_O ρ k (q i)) = true
theorem qc_P_lt {ρ : Nat → Nat} {k : Nat} {p : List Nat} (hk : k ≤ 5) (hp : ∀ v, v ∈ p → v < 4) (hl : p.length ≤ 12) : qc_P ρ k p < 2 ^ 54 := qc_pk_54 (qc_O_len k hp hl) (qc_M_V hp) hk
theorem qc_D_add {ρ : Nat → Nat} {k : Nat} {W : List Nat} {r0 t n : Nat} {mem : Nat → Int64} {man : Nat → Int32} {F : Nat} {q : Nat → List Nat} {mu : Nat → Nat} (h : qc_D ρ k W r0 t mem man F q mu) {p : List Nat} {v : Nat}
    (hp : ∀ v, v ∈ p → v < 4) (ht : p.length = t) (hr : r0 ≤ (qc_O ρ k p).length) (ha : qc_ag W r0 (qc_O ρ k p) = true) :
    ∃ q' mu', qc_D ρ k W r0 t (vp_updL mem F (lN (qc_P ρ k p))) (upd man F (nI v)) (F + 1) q' mu' ∧ qc_sm (fun i => mu' i * qc_c ρ k W r0 (q' i) n) (F + 1) = qc_sm (fun i => mu i * qc_c ρ k W r0 (q i) n) F + v * qc_c ρ k W r0 p n := by
  refine ⟨fun i => if i = F then p else q i, fun i => if i = F then v else mu i, ?_, ?_⟩
  · intro i hi
    by_cases z : i = F
    · subst z
      rw [pk_uLs, pk_us]
      simp only [if_pos]
      exact ⟨by trivial, by trivial, hp, ht, hr, ha⟩
    · rw [pk_uLn z, pk_un z]
      simp only [if_neg z]
      exact h i (by omega)
  · rw [qc_sm_s]
    simp only [if_pos]
    congr 1
    refine qc_sm_cong (fun i hi => ?_)
    simp only [if_neg (show i ≠ F by omega)]
theorem qc_D_inc {ρ : Nat → Nat} {k : Nat} {W : List Nat} {r0 t n : Nat} {mem : Nat → Int64} {man : Nat → Int32} {F : Nat} {q : Nat → List Nat} {mu : Nat → Nat} (h : qc_D ρ k W r0 t mem man F q mu) {p : List Nat} {v j : Nat} (hk : k ≤ 5) (ht12 : t ≤ 12)
    (hp : ∀ v, v ∈ p → v < 4) (ht : p.length = t) (hr : r0 ≤ (qc_O ρ k p).length) (ha : qc_ag W r0 (qc_O ρ k p) = true) (hj : j < F) (he : mem j = lN (qc_P ρ k p)) :
    ∃ q' mu', qc_D ρ k W r0 t mem (upd man j (man j + nI v)) F q' mu' ∧ qc_sm (fun i => mu' i * qc_c ρ k W r0 (q' i) n) F = qc_sm (fun i => mu i * qc_c ρ k W r0 (q i) n) F + v * qc_c ρ k W r0 p n := by
  obtain ⟨g1, g2, g3, g4, g5, g6⟩ := h j hj
  have hP : qc_P ρ k (q j) = qc_P ρ k p := by
    rw [g1] at he
    have b1 := qc_P_lt (ρ := ρ) hk g3 (by omega)
    have b2 := qc_P_lt (ρ := ρ) hk hp (by omega)
    exact (pk_lEQ (by omega) (by omega)).mp he
  obtain ⟨i1, i2⟩ := qc_pk_inj (qc_M_V g3) (qc_M_V hp) k hP
  have hc : qc_c ρ k W r0 (q j) n = qc_c ρ k W r0 p n := qc_c_same g5 i1 i2 g6 ha
  refine ⟨q, fun i => if i = j then mu j + v else mu i, ?_, ?_⟩
  · intro i hi
    by_cases z : i = j
    · subst z
      rw [pk_us]
      simp only [if_pos]
      exact ⟨g1, by rw [g2, nI_add], g3, g4, g5, g6⟩
    · rw [pk_un z]
      simp only [if_neg z]
      exact h i hi
  · refine qc_sm_upd (j := j) (fun i hi => ?_) ?_ hj
    · simp only [if_neg hi]
    · simp only [if_pos]
      rw [Nat.add_mul, hc]
theorem qc_D_cong {ρ : Nat → Nat} {k : Nat} {W : List Nat} {r0 t : Nat} {mem mem' : Nat → Int64} {man man' : Nat → Int32} {F : Nat} {q : Nat → List Nat} {mu : Nat → Nat} (h : qc_D ρ k W r0 t mem man F q mu) (h1 : ∀ i, i < F → mem' i = mem i) (h2 : ∀ i, i < F → man' i = man i) : qc_D ρ k W r0 t mem' man' F q mu := by
  intro i hi
  rw [h1 i hi, h2 i hi]
  exact h i hi
theorem qc_app4 {p : List Nat} {x : Nat} (hp : ∀ v, v ∈ p → v < 4) (hx : x < 4) : ∀ v, v ∈ p ++ [x] → v < 4 := fun v hv => by
  rcases List.mem_append.mp hv with z | z
  · exact hp v z
  · rw [List.mem_singleton] at z; omega
theorem qc_O_mono (ρ : Nat → Nat) (k : Nat) (p q : List Nat) : (qc_O ρ k p).length ≤ (qc_O ρ k (p ++ q)).length := by
  rw [qc_O_app, List.length_append]
  omega
theorem qw_copy {post : St2 → Prop} {fr fs fl fc fg fe fw ff : Int32} {a1 a2 a3 a4 a5 a6 a7 a8 a9 a10 a11 a12 a13 a15 a17 a18 : (Nat → Int32)} {a14 a16 : (Nat → Int64)} {F : Nat} (hF : F ≤ 1024) (H : ∀ (a14' : (Nat → Int64)) (a15' : (Nat → Int32)), (∀ i, i < F → a14' i = a16 i) → (∀ i, i < F → a15' i = a17 i) → post (fr, fs, fl, fc, fg, fe, fw, ff, nI F, a1, a2, a3, a4, a5, a6, a7, a8, a9, a10, a11, a12, a13, a14', a15', a16, a17, a18)) : ∃ n, wX_oneMore_77 post fr fs fl fc fg fe fw ff (nI F) n 0 a1 a2 a3 a4 a5 a6 a7 a8 a9 a10 a11 a12 a13 a14 a15 a16 a17 a18 := by
  refine pk_loop (σ := (Nat → Int64) × (Nat → Int32)) (fun n i t => wX_oneMore_77 post fr fs fl fc fg fe fw ff (nI F) n (nI i) a1 a2 a3 a4 a5 a6 a7 a8 a9 a10 a11 a12 a13 t.1 t.2 a16 a17 a18) (fun i t => (∀ j, j < i → t.1 j = a16 j) ∧ ∀ j, j < i → t.2 j = a17 j) F 0 (a14, a15) (by omega) ⟨fun j h => absurd h (by omega), fun j h => absurd h (by omega)⟩ (fun n t h => ?_) (fun n i t hi h hw => ?_)
  · exact pk_le F F (fun _ => H t.1 t.2 h.1 h.2) (fun z => absurd z (by omega))
  · refine pk_le F i (fun z => absurd z (by omega)) (fun _ => ⟨pk_in i 1024 (by omega), pk_in i 1024 (by omega), nm_r (e' := vp_updL t.1 i (a16 i)) (by rw [nI_clamp (by omega)]) ⟨pk_in i 1024 (by omega), pk_in i 1024 (by omega), nm_r (e' := upd t.2 i (a17 i)) (by rw [nI_clamp (by omega)]) (nm_r (nI_1 i) (hw (vp_updL t.1 i (a16 i), upd t.2 i (a17 i)) ⟨fun j hj => ?_, fun j hj => ?_⟩))⟩⟩)
    · dsimp only
      by_cases z : j = i
      · rw [z, pk_uLs]
      · rw [pk_uLn z]; exact h.1 j (by omega)
    · dsimp only
      by_cases z : j = i
      · rw [z, pk_us]
      · rw [pk_un z]; exact h.2 j (by omega)
theorem qw_oneMore {post : St2 → Prop} {fr fc fg fe fw fa : Int32} {a1 a2 a3 a4 a5 a6 a7 a8 a9 a10 a11 a12 a13 a15 a17 a18 : (Nat → Int32)} {a14 a16 : (Nat → Int64)} {k r0 t n F : Nat} {ρ : Nat → Nat} {W : List Nat} {q : Nat → List Nat} {mu : Nat → Nat} (hL : qc_L a1 a2 a3 a4 a5 a7 ρ k) (hW : qc_Wd a6 W) (hF : 4 * F ≤ 1024) (ht : t + 1 ≤ 12) (hD : qc_D ρ k W r0 t a14 a15 F q mu)
    (H : ∀ (F' : Nat) (q' : Nat → List Nat) (mu' : Nat → Nat) (fc' : Int32) (fg' : Int32) (fe' : Int32) (fw' : Int32) (ff' : Int32) (fa' : Int32) (a8' : (Nat → Int32)) (a9' : (Nat → Int32)) (a10' : (Nat → Int32)) (a11' : (Nat → Int32)) (a12' : (Nat → Int32)) (a13' : (Nat → Int32)) (a14' : (Nat → Int64)) (a15' : (Nat → Int32)) (a16' : (Nat → Int64)) (a17' : (Nat → Int32)), F' ≤ 4 * F → qc_D ρ k W r0 (t + 1) a14' a15' F' q' mu' → qc_sm (fun i => mu' i * qc_c ρ k W r0 (q' i) n) F' = qc_sm (fun i => mu i * qc_c ρ k W r0 (q i) (n + 1)) F →
      post (fr, nI W.length, nI k, fc', fg', fe', fw', nI F', fa', a1, a2, a3, a4, a5, a6, a7, a8', a9', a10', a11', a12', a13', a14', a15', a16', a17', a18)) :
    wpX_oneMore post (fr, nI W.length, nI k, fc, fg, fe, fw, nI F, fa, a1, a2, a3, a4, a5, a6, a7, a8, a9, a10, a11, a12, a13, a14, a15, a16, a17, a18) := by
  unfold wpX_oneMore
  have e4 : (4 : Int32) * nI F = nI (4 * F) := pk_mul 4 F
  have hk5 := hL.1
  refine pk_loop (σ := Int32 × Int32 × Int32 × Int32 × Int32 × (Nat → Int32) × (Nat → Int32) × (Nat → Int32) × (Nat → Int32) × (Nat → Int32) × (Nat → Int32) × (Nat → Int64) × (Nat → Int32)) (fun f x t => wX_oneMore_7 post f (nI x) fr (nI W.length) (nI k) t.1 t.2.1 t.2.2.1 t.2.2.2.1 (nI F) t.2.2.2.2.1 a1 a2 a3 a4 a5 a6 a7 t.2.2.2.2.2.1 t.2.2.2.2.2.2.1 t.2.2.2.2.2.2.2.1 t.2.2.2.2.2.2.2.2.1 t.2.2.2.2.2.2.2.2.2.1 t.2.2.2.2.2.2.2.2.2.2.1 a14 a15 t.2.2.2.2.2.2.2.2.2.2.2.1 t.2.2.2.2.2.2.2.2.2.2.2.2 a18)
    (fun x s => ∃ c q' mu', s.2.2.2.2.1 = nI c ∧ c ≤ x ∧ qc_D ρ k W r0 (t + 1) s.2.2.2.2.2.2.2.2.2.2.2.1 s.2.2.2.2.2.2.2.2.2.2.2.2 c q' mu' ∧ qc_sm (fun i => mu' i * qc_c ρ k W r0 (q' i) n) c = qc_sm (fun j => mu (j / 4) * qc_c ρ k W r0 (q (j / 4) ++ [j % 4]) n) x)
    (4 * F) 0 (fc, fg, fe, fw, 0, a8, a9, a10, a11, a12, a13, a16, a17) (by omega) ⟨0, q, mu, rfl, Nat.le_refl 0, fun i hi => absurd hi (by omega), rfl⟩ (fun f s h => ?_) (fun f x s hx h hw => ?_)
  · obtain ⟨fc', fg', fe', fw', fa', a8', a9', a10', a11', a12', a13', a16', a17'⟩ := s
    obtain ⟨c, q', mu', h1, h2, h3, h4⟩ := h
    dsimp only at h1 h3 h4 ⊢
    subst h1
    refine pk_le (4 * F) (4 * F) (fun _ => ?_) (fun z => absurd z (by omega)) (hx := e4)
    refine qw_copy (by omega) (fun a14' a15' g1 g2 => H c q' mu' fc' fg' fe' fw' 0 (nI c) a8' a9' a10' a11' a12' a13' a14' a15' a16' a17' h2 (qc_D_cong h3 g1 g2) ?_)
    rw [h4, qc_sm_4]
    refine qc_sm_cong (fun i hi => ?_)
    rw [qc_c_s, show 4 * i / 4 = i by omega, show (4 * i + 1) / 4 = i by omega, show (4 * i + 2) / 4 = i by omega, show (4 * i + 3) / 4 = i by omega, show 4 * i % 4 = 0 by omega, show (4 * i + 1) % 4 = 1 by omega, show (4 * i + 2) % 4 = 2 by omega, show (4 * i + 3) % 4 = 3 by omega, Nat.mul_add, Nat.mul_add, Nat.mul_add]
  · obtain ⟨fc', fg', fe', fw', fa', a8', a9', a10', a11', a12', a13', a16', a17'⟩ := s
    obtain ⟨c, q', mu', h1, h2, h3, h4⟩ := h
    dsimp only at h1 h3 h4 ⊢
    subst h1
    obtain ⟨d1, d2, d3, d4, d5, d6⟩ := hD (x / 4) (by omega)
    have hx4 : x % 4 < 4 := Nat.mod_lt _ (by decide)
    have hp' := qc_app4 d3 hx4
    have hl' : (q (x / 4) ++ [x % 4]).length = t + 1 := by rw [List.length_append, d4]; rfl
    have hO' : r0 ≤ (qc_O ρ k (q (x / 4) ++ [x % 4])).length := Nat.le_trans d5 (qc_O_mono _ _ _ _)
    refine pk_le (4 * F) x (fun z => absurd z (by omega)) (fun _ => ?_) (hx := e4)
    rw [qn_sh2 (show x < 2 ^ 31 by omega), qn_and3 (show x < 2 ^ 32 by omega)]
    refine ⟨pk_in (x / 4) 1024 (by omega), ?_⟩
    rw [nI_clamp (show x / 4 < 2 ^ 31 by omega), d1]
    refine qw_unpack hk5 (qc_O_len k d3 (by omega)) (qc_M_V d3) (fun b8 b9 b10 hb => ?_)
    refine qw_fH hL d3 hb hx4 (by omega) hW d5 d6 (fun fc'' fg'' a8'' a9'' a10'' a11'' a12'' a13'' g1 _ => ?_)
    rw [Bool.true_and]
    refine qw_brb (fun hf => nm_r (nI_1 x) (hw (_, _, _, _, _, _, _, _, _, _, _, _, _) ⟨c, q', mu', rfl, by omega, h3, ?_⟩)) (fun hf => ?_)
    · rw [qc_sm_s, ← h4]
      rw [qc_c_bad hO' hf, Nat.mul_zero, Nat.add_zero]
    · refine qw_pack hk5 (qc_O_len k hp' (by omega)) (qc_M_V hp') g1 ⟨pk_in (x / 4) 1024 (by omega), ?_⟩
      rw [d2]
      refine qw_keepNext (by omega) (fun i hi he => nm_r (nI_1 x) ?_) (nm_r (nI_1 x) ?_)
      · obtain ⟨q2, mu2, k1, k2⟩ := qc_D_inc (n := n) (v := mu (x / 4)) h3 hk5 (by omega) hp' hl' hO' hf hi he
        exact hw (_, _, _, _, _, _, _, _, _, _, _, _, _) ⟨c, q2, mu2, rfl, by omega, k1, by rw [k2, h4, qc_sm_s]⟩
      · obtain ⟨q2, mu2, k1, k2⟩ := qc_D_add (n := n) (v := mu (x / 4)) h3 hp' hl' hO' hf
        exact hw (_, _, _, _, _, _, _, _, _, _, _, _, _) ⟨c + 1, q2, mu2, rfl, by omega, k1, by rw [k2, h4, qc_sm_s]⟩
/-- the last sum -/
theorem qw_sum {post : Int32 → St2 → Prop} {fr fc fg fe fw fa : Int32} {a1 a2 a3 a4 a5 a6 a7 a8 a9 a10 a11 a12 a13 a15 a17 a18 : (Nat → Int32)} {a14 a16 : (Nat → Int64)} {k r0 t F : Nat} {ρ : Nat → Nat} {W : List Nat} {q : Nat → List Nat} {mu : Nat → Nat} (hL : qc_L a1 a2 a3 a4 a5 a7 ρ k) (hW : qc_Wd a6 W) (hF : F ≤ 1024) (ht : t ≤ 12) (hD : qc_D ρ k W r0 t a14 a15 F q mu)
    (H : ∀ (fc' : Int32) (fg' : Int32) (fe' : Int32) (fw' : Int32) (a8' : (Nat → Int32)) (a9' : (Nat → Int32)) (a10' : (Nat → Int32)) (a11' : (Nat → Int32)) (a12' : (Nat → Int32)) (a13' : (Nat → Int32)), post (nI (qc_sm (fun i => mu i * qc_c ρ k W r0 (q i) 0) F)) (fr, nI W.length, nI k, fc', fg', fe', fw', nI F, fa, a1, a2, a3, a4, a5, a6, a7, a8', a9', a10', a11', a12', a13', a14, a15, a16, a17, a18)) :
    ∃ n, wX_countFrom_44 post n 0 0 fr (nI W.length) (nI k) fc fg fe fw (nI F) fa a1 a2 a3 a4 a5 a6 a7 a8 a9 a10 a11 a12 a13 a14 a15 a16 a17 a18 := by
  have hk5 := hL.1
  have hWl := hW.2.1
  refine pk_loop (σ := Int32 × Int32 × Int32 × Int32 × Int32 × (Nat → Int32) × (Nat → Int32) × (Nat → Int32) × (Nat → Int32) × (Nat → Int32) × (Nat → Int32)) (fun f x s => wX_countFrom_44 post f s.1 (nI x) fr (nI W.length) (nI k) s.2.1 s.2.2.1 s.2.2.2.1 s.2.2.2.2.1 (nI F) fa a1 a2 a3 a4 a5 a6 a7 s.2.2.2.2.2.1 s.2.2.2.2.2.2.1 s.2.2.2.2.2.2.2.1 s.2.2.2.2.2.2.2.2.1 s.2.2.2.2.2.2.2.2.2.1 s.2.2.2.2.2.2.2.2.2.2 a14 a15 a16 a17 a18)
    (fun x s => s.1 = nI (qc_sm (fun i => mu i * qc_c ρ k W r0 (q i) 0) x)) F 0 (0, fc, fg, fe, fw, a8, a9, a10, a11, a12, a13) (by omega) rfl (fun f s h => ?_) (fun f x s hx h hw => ?_)
  · obtain ⟨v, fc', fg', fe', fw', a8', a9', a10', a11', a12', a13'⟩ := s
    dsimp only at h ⊢
    subst h
    exact pk_le F F (fun _ => H fc' fg' fe' fw' a8' a9' a10' a11' a12' a13') (fun z => absurd z (by omega))
  · obtain ⟨v, fc', fg', fe', fw', a8', a9', a10', a11', a12', a13'⟩ := s
    dsimp only at h ⊢
    subst h
    obtain ⟨d1, d2, d3, d4, d5, d6⟩ := hD x hx
    refine pk_le F x (fun z => absurd z (by omega)) (fun _ => ⟨pk_in x 1024 (by omega), ?_⟩)
    rw [nI_clamp (show x < 2 ^ 31 by omega), d1]
    refine qw_unpack hk5 (qc_O_len k d3 (by omega)) (qc_M_V d3) (fun b8 b9 b10 hb => ?_)
    refine qw_fE hL d3 hb (by omega) hW d5 d6 (fun fc'' fg'' a8'' a9'' a10'' a11'' a12'' a13'' _ => ?_)
    have hRl := qc_R_len (ρ := ρ) k d3 (by omega)
    rw [Bool.true_and]
    have no : qc_fi W r0 (qc_R ρ k (q x)) = false → nI (qc_sm (fun i => mu i * qc_c ρ k W r0 (q i) 0) x) = nI (qc_sm (fun i => mu i * qc_c ρ k W r0 (q i) 0) (x + 1)) := by
      intro z
      rw [qc_sm_s, qc_c_0, z]
      rfl
    refine qw_brb (fun hf => nm_r (nI_1 x) (hw (_, _, _, _, _, _, _, _, _, _, _) (no ?_))) (fun hf => ?_)
    · unfold qc_fi
      rw [hf, Bool.and_false]
    · refine pk_eq (qc_R ρ k (q x)).length W.length (fun z => ⟨pk_in x 1024 (by omega), nm_r (e' := nI (qc_sm (fun i => mu i * qc_c ρ k W r0 (q i) 0) x + mu x)) (by rw [d2, nI_add]) (nm_r (nI_1 x) (hw (nI (qc_sm (fun i => mu i * qc_c ρ k W r0 (q i) 0) x + mu x), _, _, _, _, _, _, _, _, _, _) ?_))⟩) (fun z => nm_r (nI_1 x) (hw (_, _, _, _, _, _, _, _, _, _, _) (no ?_)))
      · show _ = nI (qc_sm (fun i => mu i * qc_c ρ k W r0 (q i) 0) (x + 1))
        have : qc_fi W r0 (qc_R ρ k (q x)) = true := by
          unfold qc_fi
          rw [hf, z]
          simp
        rw [qc_sm_s, qc_c_0, this]
        simp
      · unfold qc_fi
        simp [z]
theorem qw_countFrom {post : Int32 → St2 → Prop} {fr fc fg fe fw ff fa : Int32} {a1 a2 a3 a4 a5 a6 a7 a8 a9 a10 a11 a12 a13 a15 a17 a18 : (Nat → Int32)} {a14 a16 : (Nat → Int64)} {k n : Nat} {ρ : Nat → Nat} {W p : List Nat} (hL : qc_L a1 a2 a3 a4 a5 a7 ρ k) (hW : qc_Wd a6 W) (hp : ∀ v, v ∈ p → v < 4) (hn : n ≤ 5) (hl : p.length + n ≤ 12)
    (H : ∀ (fc' : Int32) (fg' : Int32) (fe' : Int32) (fw' : Int32) (ff' : Int32) (fa' : Int32) (a8' : (Nat → Int32)) (a9' : (Nat → Int32)) (a10' : (Nat → Int32)) (a11' : (Nat → Int32)) (a12' : (Nat → Int32)) (a13' : (Nat → Int32)) (a14' : (Nat → Int64)) (a15' : (Nat → Int32)) (a16' : (Nat → Int64)) (a17' : (Nat → Int32)), post (nI (qc_c ρ k W (qc_O ρ k p).length p n)) (fr, nI W.length, nI k, fc', fg', fe', fw', ff', fa', a1, a2, a3, a4, a5, a6, a7, a8', a9', a10', a11', a12', a13', a14', a15', a16', a17', a18)) :
    wpX_countFrom post (fr, nI W.length, nI k, fc, fg, fe, fw, ff, fa, a1, a2, a3, a4, a5, a6, a7, a8, a9, a10, a11, a12, a13, a14, a15, a16, a17, a18) (lN (qc_P ρ k p)) (nI n) := by
  unfold wpX_countFrom
  refine nm_e (nm_e ?_)
  refine pk_loop (σ := Int32 × Int32 × Int32 × Int32 × Int32 × Int32 × (Nat → Int32) × (Nat → Int32) × (Nat → Int32) × (Nat → Int32) × (Nat → Int32) × (Nat → Int32) × (Nat → Int64) × (Nat → Int32) × (Nat → Int64) × (Nat → Int32)) (fun f i s => wX_countFrom_22 post (nI n) f (nI i) fr (nI W.length) (nI k) s.1 s.2.1 s.2.2.1 s.2.2.2.1 s.2.2.2.2.1 s.2.2.2.2.2.1 a1 a2 a3 a4 a5 a6 a7 s.2.2.2.2.2.2.1 s.2.2.2.2.2.2.2.1 s.2.2.2.2.2.2.2.2.1 s.2.2.2.2.2.2.2.2.2.1 s.2.2.2.2.2.2.2.2.2.2.1 s.2.2.2.2.2.2.2.2.2.2.2.1 s.2.2.2.2.2.2.2.2.2.2.2.2.1 s.2.2.2.2.2.2.2.2.2.2.2.2.2.1 s.2.2.2.2.2.2.2.2.2.2.2.2.2.2.1 s.2.2.2.2.2.2.2.2.2.2.2.2.2.2.2 a18)
    (fun i s => ∃ F q mu, s.2.2.2.2.1 = nI F ∧ F ≤ 4 ^ i ∧ qc_D ρ k W (qc_O ρ k p).length (p.length + i) s.2.2.2.2.2.2.2.2.2.2.2.2.1 s.2.2.2.2.2.2.2.2.2.2.2.2.2.1 F q mu ∧ qc_sm (fun j => mu j * qc_c ρ k W (qc_O ρ k p).length (q j) (n - i)) F = qc_c ρ k W (qc_O ρ k p).length p n)
    n 0 (fc, fg, fe, fw, 1, fa, a8, a9, a10, a11, a12, a13, vp_updL a14 0 (lN (qc_P ρ k p)), upd a15 0 1, a16, a17) (by omega) ⟨1, fun _ => p, fun _ => 1, rfl, Nat.le_refl 1, ?_, ?_⟩ (fun f s h => ?_) (fun f i s hi h hw => ?_)
  · intro i hi
    have : i = 0 := by omega
    subst this
    dsimp only
    rw [pk_uLs, pk_us]
    exact ⟨rfl, rfl, hp, rfl, Nat.le_refl _, qc_ag_self _ _⟩
  · show 0 + 1 * _ = _
    rw [Nat.one_mul, Nat.zero_add, Nat.sub_zero]
  · obtain ⟨fc', fg', fe', fw', ff', fa', a8', a9', a10', a11', a12', a13', a14', a15', a16', a17'⟩ := s
    obtain ⟨F, q, mu, h1, h2, h3, h4⟩ := h
    dsimp only at h1 h3 h4 ⊢
    subst h1
    have hpw : 4 ^ n ≤ 4 ^ 5 := Nat.pow_le_pow_right (by decide) hn
    have e5 : (4 : Nat) ^ 5 = 1024 := by decide
    rw [Nat.sub_self] at h4
    refine pk_le n n (fun _ => ?_) (fun z => absurd z (by omega))
    refine qw_sum hL hW (by omega) hl h3 (fun (fc'' : Int32) (fg'' : Int32) (fe'' : Int32) (fw'' : Int32) (a8'' : (Nat → Int32)) (a9'' : (Nat → Int32)) (a10'' : (Nat → Int32)) (a11'' : (Nat → Int32)) (a12'' : (Nat → Int32)) (a13'' : (Nat → Int32)) => ?_)
    rw [h4]
    exact H fc'' fg'' fe'' fw'' _ _ a8'' a9'' a10'' a11'' a12'' a13'' _ _ _ _
  · obtain ⟨fc', fg', fe', fw', ff', fa', a8', a9', a10', a11', a12', a13', a14', a15', a16', a17'⟩ := s
    obtain ⟨F, q, mu, h1, h2, h3, h4⟩ := h
    dsimp only at h1 h3 h4 ⊢
    subst h1
    have hpw : 4 ^ (i + 1) ≤ 4 ^ 5 := Nat.pow_le_pow_right (by decide) (by omega)
    have e5 : (4 : Nat) ^ 5 = 1024 := by decide
    rw [qc_pow4] at hpw
    refine pk_le n i (fun z => absurd z (by omega)) (fun _ => ?_)
    refine qw_oneMore (n := n - (i + 1)) hL hW (by omega) (by omega) h3 (fun F' q' mu' fc'' fg'' fe'' fw'' ff'' fa'' a8'' a9'' a10'' a11'' a12'' a13'' a14'' a15'' a16'' a17'' g1 g2 g3 => nm_r (nI_1 i) (hw (_, _, _, _, _, _, _, _, _, _, _, _, _, _, _, _) ⟨F', q', mu', rfl, ?_, g2, ?_⟩))
    · rw [qc_pow4]
      omega
    · rw [g3, show n - (i + 1) + 1 = n - i by omega, h4]
end
section
/-! sources and source. -/
theorem qw_badN {post : Int32 → Prop} {fr fs fl fc fg fe fw ff fa : Int32} {a1 a2 a3 a4 a5 a6 a7 a8 a9 a10 a11 a12 a13 a15 a17 a18 : (Nat → Int32)} {a14 a16 : (Nat → Int64)} {n : Nat} (hn : n ≤ 5) (H : post 0) : wpX_badNumber post (fr, fs, fl, fc, fg, fe, fw, ff, fa, a1, a2, a3, a4, a5, a6, a7, a8, a9, a10, a11, a12, a13, a14, a15, a16, a17, a18) (nI n) := by
  unfold wpX_badNumber
  exact br_f (nI_pos (by omega)) (pk_le n 5 (fun _ => H) (fun z => absurd z (by omega)))
theorem qc_P_nil (ρ : Nat → Nat) (k : Nat) : qc_pk 0 (qc_M ρ []) k = qc_P ρ k [] := by
  unfold qc_P
  rw [qc_O_nil]
  rfl
theorem qw_sources {post : Int32 → St2 → Prop} {fl fc fg fe fw ff fa : Int32} {a1 a2 a3 a4 a5 a6 a7 a8 a9 a10 a11 a12 a13 a15 a17 a18 : (Nat → Int32)} {a14 a16 : (Nat → Int64)} {R n : Nat} {ρ : Nat → Nat} {W : List Nat} (hR : qc_Rs a1 a2 a3 a4 a5 ρ R) (hn : n ≤ 5) (hW : qc_Wd a6 W)
    (H : ∀ (fl' : Int32) (fc' : Int32) (fg' : Int32) (fe' : Int32) (fw' : Int32) (ff' : Int32) (fa' : Int32) (a7' : (Nat → Int32)) (a8' : (Nat → Int32)) (a9' : (Nat → Int32)) (a10' : (Nat → Int32)) (a11' : (Nat → Int32)) (a12' : (Nat → Int32)) (a13' : (Nat → Int32)) (a14' : (Nat → Int64)) (a15' : (Nat → Int32)) (a16' : (Nat → Int64)) (a17' : (Nat → Int32)) (a18' : (Nat → Int32)), post (nI (qc_c ρ R W 0 [] n)) (nI R, nI W.length, fl', fc', fg', fe', fw', ff', fa', a1, a2, a3, a4, a5, a6, a7', a8', a9', a10', a11', a12', a13', a14', a15', a16', a17', a18')) : wpX_sources post (nI R, nI W.length, fl, fc, fg, fe, fw, ff, fa, a1, a2, a3, a4, a5, a6, a7, a8, a9, a10, a11, a12, a13, a14, a15, a16, a17, a18) (nI n) := by
  unfold wpX_sources
  refine qw_badN hn (br_t rfl (qw_use hR.1 (fun b7 h7 => qw_begin (fun b8 b9 b10 hb => ?_))))
  have hL := qc_L_of hR (Nat.le_refl R) h7
  refine qw_pack (m := qc_M ρ []) (r := 0) hR.1 (by omega) (qc_M_V qc_nil4) (qw_start ρ hR.1 hb) ?_
  rw [qc_P_nil]
  refine qw_countFrom hL hW qc_nil4 hn (by show 0 + n ≤ 12; omega) (fun fc' fg' fe' fw' ff' fa' a8' a9' a10' a11' a12' a13' a14' a15' a16' a17' => ?_)
  rw [qc_O_nil]
  exact H _ _ _ _ _ _ _ _ _ _ _ _ _ _ _ _ _ _ _
/-- a prefix of a word that leads there agrees -/
theorem qc_pre {ρ : Nat → Nat} {k : Nat} {W p q : List Nat} (h : qc_fi W 0 (qc_R ρ k (p ++ q)) = true) : qc_ag W 0 (qc_O ρ k p) = true := by
  rw [qc_R_app, qc_fi_app (Nat.zero_le _), Bool.and_eq_true, Bool.and_eq_true] at h
  exact h.2.1
theorem qw_source_in {post : Int32 → St2 → Prop} {J59 : Int64 → Int32 → Int32 → Int32 → Int32 → Int32 → Int32 → Int32 → Int32 → Int32 → Int32 → Int32 → Int32 → (Nat → Int32) → (Nat → Int32) → (Nat → Int32) → (Nat → Int32) → (Nat → Int32) → (Nat → Int32) → (Nat → Int32) → (Nat → Int32) → (Nat → Int32) → (Nat → Int32) → (Nat → Int32) → (Nat → Int32) → (Nat → Int32) → (Nat → Int64) → (Nat → Int32) → (Nat → Int64) → (Nat → Int32) → (Nat → Int32) → Prop}
    {fr fc fg fe fw ff fa : Int32} {a1 a2 a3 a4 a5 a6 a7 a8 a9 a10 a11 a12 a13 a15 a17 a18 : (Nat → Int32)} {a14 a16 : (Nat → Int64)} {k j v : Nat} {x7 : Int32} {ρ : Nat → Nat} {W p : List Nat} (hL : qc_L a1 a2 a3 a4 a5 a7 ρ k) (hW : qc_Wd a6 W) (hp : ∀ v, v ∈ p → v < 4) (hj : j ≤ 4) (hl : p.length + (j + 1) ≤ 12) (hv : v < 4 ^ (j + 1)) (hf : qc_f ρ k W 0 p (j + 1) v = true)
    (H : ∀ (d u : Nat) (fc' : Int32) (fg' : Int32) (fe' : Int32) (fw' : Int32) (ff' : Int32) (fa' : Int32) (a8' : (Nat → Int32)) (a9' : (Nat → Int32)) (a10' : (Nat → Int32)) (a11' : (Nat → Int32)) (a12' : (Nat → Int32)) (a13' : (Nat → Int32)) (a14' : (Nat → Int64)) (a15' : (Nat → Int32)) (a16' : (Nat → Int64)) (a17' : (Nat → Int32)), d < 4 → u < 4 ^ j → v = d * 4 ^ j + u → qc_f ρ k W 0 (p ++ [d]) j u = true → J59 (lN (qc_P ρ k (p ++ [d]))) (nI (qc_ct (qc_f ρ k W 0 (p ++ [d]) j) u)) (4 * x7 + nI d) (nI j - 1) fr (nI W.length) (nI k) fc' fg' fe' fw' ff' fa' a1 a2 a3 a4 a5 a6 a7 a8' a9' a10' a11' a12' a13' a14' a15' a16' a17' a18) :
    ∃ n, wX_source_79 post J59 (lN (qc_P ρ k p)) x7 (nI j) n (nI (qc_ct (qc_f ρ k W 0 p (j + 1)) v)) 0 0 1 0 fr (nI W.length) (nI k) fc fg fe fw ff fa a1 a2 a3 a4 a5 a6 a7 a8 a9 a10 a11 a12 a13 a14 a15 a16 a17 a18 := by
  have hag : qc_ag W 0 (qc_O ρ k p) = true := qc_pre hf
  have hk5 := hL.1
  have hpos : 0 < 4 ^ j := Nat.pow_pos (by decide)
  have hpw : 4 ^ (j + 1) ≤ 4 ^ 5 := Nat.pow_le_pow_right (by decide) (by omega)
  have e5 : (4 : Nat) ^ 5 = 1024 := by decide
  rw [qc_pow4] at hv hpw
  obtain ⟨d, u, hu, hvd⟩ : ∃ d u, u < 4 ^ j ∧ v = d * 4 ^ j + u := ⟨v / 4 ^ j, v % 4 ^ j, Nat.mod_lt _ hpos, by rw [Nat.mul_comm]; exact (Nat.div_add_mod v (4 ^ j)).symm⟩
  have hd : d < 4 := by
    rcases Nat.lt_or_ge d 4 with z | z
    · exact z
    · have := Nat.mul_le_mul_right (4 ^ j) z
      omega
  have hf' : qc_f ρ k W 0 (p ++ [d]) j u = true := by rw [← qc_f_dig hd hu, ← hvd]; exact hf
  have hsplit : qc_ct (qc_f ρ k W 0 p (j + 1)) v = qc_ct (qc_f ρ k W 0 p (j + 1)) (d * 4 ^ j) + qc_ct (qc_f ρ k W 0 (p ++ [d]) j) u := by rw [hvd]; exact qc_ct_dig hd (by omega)
  have hvle : qc_ct (qc_f ρ k W 0 p (j + 1)) v ≤ v := qc_ct_le _ _
  refine pk_loop (σ := Int32 × Int32 × Int64 × Int32 × Int32 × Int32 × Int32 × Int32 × Int32 × Int32 × (Nat → Int32) × (Nat → Int32) × (Nat → Int32) × (Nat → Int32) × (Nat → Int32) × (Nat → Int32) × (Nat → Int64) × (Nat → Int32) × (Nat → Int64) × (Nat → Int32)) (fun f i s => wX_source_79 post J59 (lN (qc_P ρ k p)) x7 (nI j) f s.1 s.2.1 s.2.2.1 s.2.2.2.1 (nI i) fr (nI W.length) (nI k) s.2.2.2.2.1 s.2.2.2.2.2.1 s.2.2.2.2.2.2.1 s.2.2.2.2.2.2.2.1 s.2.2.2.2.2.2.2.2.1 s.2.2.2.2.2.2.2.2.2.1 a1 a2 a3 a4 a5 a6 a7 s.2.2.2.2.2.2.2.2.2.2.1 s.2.2.2.2.2.2.2.2.2.2.2.1 s.2.2.2.2.2.2.2.2.2.2.2.2.1 s.2.2.2.2.2.2.2.2.2.2.2.2.2.1 s.2.2.2.2.2.2.2.2.2.2.2.2.2.2.1 s.2.2.2.2.2.2.2.2.2.2.2.2.2.2.2.1 s.2.2.2.2.2.2.2.2.2.2.2.2.2.2.2.2.1 s.2.2.2.2.2.2.2.2.2.2.2.2.2.2.2.2.2.1 s.2.2.2.2.2.2.2.2.2.2.2.2.2.2.2.2.2.2.1 s.2.2.2.2.2.2.2.2.2.2.2.2.2.2.2.2.2.2.2 a18)
    (fun i s => (i ≤ d → s.2.2.2.1 = 1 ∧ s.1 = nI (qc_ct (qc_f ρ k W 0 p (j + 1)) v - qc_ct (qc_f ρ k W 0 p (j + 1)) (i * 4 ^ j))) ∧ (i = d + 1 → s.2.2.2.1 = 0 ∧ s.1 = nI (qc_ct (qc_f ρ k W 0 (p ++ [d]) j) u) ∧ s.2.1 = nI d ∧ s.2.2.1 = lN (qc_P ρ k (p ++ [d]))))
    (d + 1) 0 (nI (qc_ct (qc_f ρ k W 0 p (j + 1)) v), 0, 0, 1, fc, fg, fe, fw, ff, fa, a8, a9, a10, a11, a12, a13, a14, a15, a16, a17) (by omega) ⟨fun _ => ⟨rfl, by rw [Nat.zero_mul, qc_ct_0, Nat.sub_zero]⟩, fun h => absurd h (by omega)⟩ (fun f s h => ?_) (fun f i s hi h hw => ?_)
  · obtain ⟨x6, x9, x10, x13, fc', fg', fe', fw', ff', fa', a8', a9', a10', a11', a12', a13', a14', a15', a16', a17'⟩ := s
    obtain ⟨h1, h2, h3, h4⟩ := h.2 rfl
    dsimp only at h1 h2 h3 h4 ⊢
    subst h1 h2 h3 h4
    have fin : wX_source_177 post J59 (nI (qc_ct (qc_f ρ k W 0 (p ++ [d]) j) u)) x7 (nI j) (nI d) (lN (qc_P ρ k (p ++ [d]))) fr (nI W.length) (nI k) fc' fg' fe' fw' ff' fa' a1 a2 a3 a4 a5 a6 a7 a8' a9' a10' a11' a12' a13' a14' a15' a16' a17' a18 := by
      unfold wX_source_177
      exact nm_e (nm_r (qn_sub1 _) (H d u fc' fg' fe' fw' ff' fa' a8' a9' a10' a11' a12' a13' a14' a15' a16' a17' hd hu hvd hf'))
    exact pk_le 4 (d + 1) (fun _ => fin) (fun _ => br_t rfl fin)
  · obtain ⟨x6, x9, x10, x13, fc', fg', fe', fw', ff', fa', a8', a9', a10', a11', a12', a13', a14', a15', a16', a17'⟩ := s
    obtain ⟨h1, h2⟩ := h.1 (by omega)
    dsimp only at h1 h2 ⊢
    subst h1 h2
    have hi4 : i < 4 := by omega
    have hp' := qc_app4 hp hi4
    have hlp : (p ++ [i]).length = p.length + 1 := List.length_append
    refine pk_le 4 i (fun z => absurd z (by omega)) (fun _ => br_f (by decide) ?_)
    refine qw_unpack hk5 (qc_O_len k hp (by omega)) (qc_M_V hp) (fun b8 b9 b10 hb => ?_)
    refine qw_fH hL hp hb hi4 (by omega) hW (Nat.zero_le _) hag (fun fc'' fg'' a8'' a9'' a10'' a11'' a12'' a13'' g1 _ => ?_)
    rw [Bool.true_and]
    refine qw_pack hk5 (qc_O_len k hp' (by omega)) (qc_M_V hp') g1 ?_
    refine qw_countFrom (p := p ++ [i]) hL hW hp' (by omega) (by omega) (fun fc'' fg'' fe'' fw'' ff'' fa'' a8'' a9'' a10'' a11'' a12'' a13'' a14'' a15'' a16'' a17'' => ?_)
    have hblk := qc_ct_blk (ρ := ρ) (k := k) (W := W) (r0 := 0) (p := p) (n := j) hi4
    have hmono : qc_ct (qc_f ρ k W 0 p (j + 1)) (i * 4 ^ j) ≤ qc_ct (qc_f ρ k W 0 p (j + 1)) v := qc_ct_mono _ (by rw [hvd]; have := Nat.mul_le_mul_right (4 ^ j) (show i ≤ d by omega); omega)
    have hcle := qc_c_le (ρ := ρ) (k := k) (W := W) 0 (p ++ [i]) j
    have step : ∀ ways : Nat, ways = qc_c ρ k W 0 (p ++ [i]) j → wX_source_134 post J59 (wX_source_79 post J59 (lN (qc_P ρ k p)) x7 (nI j) f) (lN (qc_P ρ k p)) (nI (qc_ct (qc_f ρ k W 0 p (j + 1)) v - qc_ct (qc_f ρ k W 0 p (j + 1)) (i * 4 ^ j))) x7 (nI j) (lN (qc_P ρ k (p ++ [i]))) (nI i) (nI ways) fr (nI W.length) (nI k) fc'' fg'' fe'' fw'' ff'' fa'' a1 a2 a3 a4 a5 a6 a7 a8'' a9'' a10'' a11'' a12'' a13'' a14'' a15'' a16'' a17'' a18 := by
      intro ways hways
      subst hways
      unfold wX_source_134 wX_source_152
      refine pk_lt (qc_ct (qc_f ρ k W 0 p (j + 1)) v - qc_ct (qc_f ρ k W 0 p (j + 1)) (i * 4 ^ j)) (qc_c ρ k W 0 (p ++ [i]) j) (fun z => br_t rfl (nm_r (nI_1 i) (hw (nI (qc_ct (qc_f ρ k W 0 p (j + 1)) v - qc_ct (qc_f ρ k W 0 p (j + 1)) (i * 4 ^ j)), nI i, lN (qc_P ρ k (p ++ [i])), 0, fc'', fg'', fe'', fw'', ff'', fa'', a8'', a9'', a10'', a11'', a12'', a13'', a14'', a15'', a16'', a17'') ?_))) (fun z => br_f (by decide) (nm_r (pk_sub z) (nm_r (nI_1 i) (hw (nI (qc_ct (qc_f ρ k W 0 p (j + 1)) v - qc_ct (qc_f ρ k W 0 p (j + 1)) (i * 4 ^ j) - qc_c ρ k W 0 (p ++ [i]) j), nI i, lN (qc_P ρ k (p ++ [i])), 1, fc'', fg'', fe'', fw'', ff'', fa'', a8'', a9'', a10'', a11'', a12'', a13'', a14'', a15'', a16'', a17'') ?_))))
      · have hid : i = d := by
          rcases Nat.lt_or_ge i d with y | y
          · have m1 : qc_ct (qc_f ρ k W 0 p (j + 1)) ((i + 1) * 4 ^ j) ≤ qc_ct (qc_f ρ k W 0 p (j + 1)) v := qc_ct_mono _ (by rw [hvd]; have := Nat.mul_le_mul_right (4 ^ j) (show i + 1 ≤ d by omega); omega)
            omega
          · omega
        subst hid
        refine ⟨fun y => absurd y (by omega), fun _ => ⟨rfl, ?_, rfl, rfl⟩⟩
        exact congrArg nI (by omega)
      · have hid : i < d := by
          rcases Nat.lt_or_ge i d with y | y
          · exact y
          · have hid : i = d := by omega
            subst hid
            have := qc_ct_lt hu hf'
            have e : qc_ct (qc_f ρ k W 0 (p ++ [i]) j) (4 ^ j) = qc_c ρ k W 0 (p ++ [i]) j := rfl
            omega
        refine ⟨fun y => ⟨rfl, ?_⟩, fun y => absurd y (by omega)⟩
        exact congrArg nI (by omega)
    refine qw_brb (fun hb => step 0 ?_) (fun hb => ?_)
    · rw [qc_c_bad (Nat.zero_le _) hb]
    · have e : qc_c ρ k W (qc_O ρ k (p ++ [i])).length (p ++ [i]) j = qc_c ρ k W 0 (p ++ [i]) j := qc_c_r0 (Nat.le_refl _) (Nat.zero_le _) (qc_ag_self _ _) hb
      rw [e]
      exact step _ rfl
theorem qw_source {post : Int32 → St2 → Prop} {fl fc fg fe fw ff fa : Int32} {a1 a2 a3 a4 a5 a6 a7 a8 a9 a10 a11 a12 a13 a15 a17 a18 : (Nat → Int32)} {a14 a16 : (Nat → Int64)} {R n w : Nat} {ρ : Nat → Nat} {W : List Nat} (hR : qc_Rs a1 a2 a3 a4 a5 ρ R) (hn : n ≤ 5) (hW : qc_Wd a6 W) (hw4 : w < 4 ^ n) (hf : qc_R ρ R (qc_dg n w) = W)
    (H : ∀ (fl' : Int32) (fc' : Int32) (fg' : Int32) (fe' : Int32) (fw' : Int32) (ff' : Int32) (fa' : Int32) (a7' : (Nat → Int32)) (a8' : (Nat → Int32)) (a9' : (Nat → Int32)) (a10' : (Nat → Int32)) (a11' : (Nat → Int32)) (a12' : (Nat → Int32)) (a13' : (Nat → Int32)) (a14' : (Nat → Int64)) (a15' : (Nat → Int32)) (a16' : (Nat → Int64)) (a17' : (Nat → Int32)) (a18' : (Nat → Int32)), post (nI (4 ^ n + w)) (nI R, nI W.length, fl', fc', fg', fe', fw', ff', fa', a1, a2, a3, a4, a5, a6, a7', a8', a9', a10', a11', a12', a13', a14', a15', a16', a17', a18')) : wpX_source post (nI R, nI W.length, fl, fc, fg, fe, fw, ff, fa, a1, a2, a3, a4, a5, a6, a7, a8, a9, a10, a11, a12, a13, a14, a15, a16, a17, a18) (nI n) (nI (qc_ct (qc_f ρ R W 0 [] n) w)) := by
  unfold wpX_source
  have hpw : 4 ^ n ≤ 4 ^ 5 := Nat.pow_le_pow_right (by decide) hn
  have e5 : (4 : Nat) ^ 5 = 1024 := by decide
  have hfw : qc_f ρ R W 0 [] n w = true := qc_f_0.mpr hf
  have hlt : qc_ct (qc_f ρ R W 0 [] n) w < qc_c ρ R W 0 [] n := qc_ct_lt hw4 hfw
  have hcle := qc_c_le (ρ := ρ) (k := R) (W := W) 0 [] n
  refine qw_badN hn (br_t rfl (qw_use hR.1 (fun b7 h7 => qw_begin (fun b8 b9 b10 hb => ?_))))
  have hL := qc_L_of hR (Nat.le_refl R) h7
  refine qw_pack (m := qc_M ρ []) (r := 0) hR.1 (by omega) (qc_M_V qc_nil4) (qw_start ρ hR.1 hb) ?_
  rw [qc_P_nil]
  refine qw_countFrom hL hW qc_nil4 hn (by show 0 + n ≤ 12; omega) (fun fc' fg' fe' fw' ff' fa' a8' a9' a10' a11' a12' a13' a14' a15' a16' a17' => ?_)
  rw [qc_O_nil]
  show (_ → _) ∧ (¬ _ → _)
  refine br_f (nI_pos (by omega)) (pk_lt (qc_ct (qc_f ρ R W 0 [] n) w) (qc_c ρ R W 0 [] n) (fun _ => nm_e ?_) (fun z => absurd z (by omega)))
  refine ⟨n + 1, pk_loopD (σ := Int64 × Int32 × Int32 × Int32 × Int32 × Int32 × Int32 × Int32 × Int32 × (Nat → Int32) × (Nat → Int32) × (Nat → Int32) × (Nat → Int32) × (Nat → Int32) × (Nat → Int32) × (Nat → Int64) × (Nat → Int32) × (Nat → Int64) × (Nat → Int32)) (fun f j s => wX_source_59 post f s.1 s.2.1 s.2.2.1 (nI j - 1) (nI R) (nI W.length) (nI R) s.2.2.2.1 s.2.2.2.2.1 s.2.2.2.2.2.1 s.2.2.2.2.2.2.1 s.2.2.2.2.2.2.2.1 s.2.2.2.2.2.2.2.2.1 a1 a2 a3 a4 a5 a6 b7 s.2.2.2.2.2.2.2.2.2.1 s.2.2.2.2.2.2.2.2.2.2.1 s.2.2.2.2.2.2.2.2.2.2.2.1 s.2.2.2.2.2.2.2.2.2.2.2.2.1 s.2.2.2.2.2.2.2.2.2.2.2.2.2.1 s.2.2.2.2.2.2.2.2.2.2.2.2.2.2.1 s.2.2.2.2.2.2.2.2.2.2.2.2.2.2.2.1 s.2.2.2.2.2.2.2.2.2.2.2.2.2.2.2.2.1 s.2.2.2.2.2.2.2.2.2.2.2.2.2.2.2.2.2.1 s.2.2.2.2.2.2.2.2.2.2.2.2.2.2.2.2.2.2 a18)
    (fun j s => ∃ p v, p.length + j = n ∧ (∀ v, v ∈ p → v < 4) ∧ v < 4 ^ j ∧ s.1 = lN (qc_P ρ R p) ∧ s.2.1 = nI (qc_ct (qc_f ρ R W 0 p j) v) ∧ s.2.2.1 = nI (qc_enc p) ∧ p ++ qc_dg j v = qc_dg n w ∧ qc_f ρ R W 0 p j v = true)
    (fun f s h => ?_) (fun f j s h hw => ?_) n (lN (qc_P ρ R []), nI (qc_ct (qc_f ρ R W 0 [] n) w), 1, fc', fg', fe', fw', ff', fa', a8', a9', a10', a11', a12', a13', a14', a15', a16', a17') ⟨[], w, Nat.zero_add n, qc_nil4, hw4, rfl, rfl, rfl, rfl, hfw⟩⟩
  · obtain ⟨x3, x6, x7, fc'', fg'', fe'', fw'', ff'', fa'', a8'', a9'', a10'', a11'', a12'', a13'', a14'', a15'', a16'', a17''⟩ := s
    obtain ⟨p, v, g1, g2, g3, g4, g5, g6, g7, g8⟩ := h
    dsimp only at g4 g5 g6 ⊢
    rw [qc_dg_0, List.append_nil] at g7
    subst g6
    rw [g7, qc_enc_dg n w hw4]
    exact br_t qn_neg1 (H _ _ _ _ _ _ _ _ _ _ _ _ _ _ _ _ _ _ _)
  · obtain ⟨x3, x6, x7, fc'', fg'', fe'', fw'', ff'', fa'', a8'', a9'', a10'', a11'', a12'', a13'', a14'', a15'', a16'', a17''⟩ := s
    obtain ⟨p, v, g1, g2, g3, g4, g5, g6, g7, g8⟩ := h
    dsimp only at g4 g5 g6 ⊢
    subst g4 g5 g6
    rw [nI_pred]
    refine br_f (nI_pos (by omega)) (qw_source_in hL hW g2 (by omega) (by omega) g3 g8 (fun d u fc''' fg''' fe''' fw''' ff''' fa''' a8''' a9''' a10''' a11''' a12''' a13''' a14''' a15''' a16''' a17''' k1 k2 k3 k4 => ?_))
    rw [qn_4m, ← qc_enc_s]
    refine hw (_, _, _, fc''', fg''', fe''', fw''', ff''', fa''', a8''', a9''', a10''', a11''', a12''', a13''', a14''', a15''', a16''', a17''') ⟨p ++ [d], u, ?_, qc_app4 g2 k1, k2, rfl, rfl, rfl, ?_, k4⟩
    · rw [List.length_append]
      show p.length + 1 + j = n
      omega
    · rw [← g7, k3, qc_dg_cons j d u k1 k2, List.append_assoc]
      rfl
theorem qw_source_none {post : Int32 → St2 → Prop} {fl fc fg fe fw ff fa : Int32} {a1 a2 a3 a4 a5 a6 a7 a8 a9 a10 a11 a12 a13 a15 a17 a18 : (Nat → Int32)} {a14 a16 : (Nat → Int64)} {R n : Nat} {ρ : Nat → Nat} {W : List Nat} (hR : qc_Rs a1 a2 a3 a4 a5 ρ R) (hn : n ≤ 5) (hW : qc_Wd a6 W)
    (H : ∀ (fl' : Int32) (fc' : Int32) (fg' : Int32) (fe' : Int32) (fw' : Int32) (ff' : Int32) (fa' : Int32) (a7' : (Nat → Int32)) (a8' : (Nat → Int32)) (a9' : (Nat → Int32)) (a10' : (Nat → Int32)) (a11' : (Nat → Int32)) (a12' : (Nat → Int32)) (a13' : (Nat → Int32)) (a14' : (Nat → Int64)) (a15' : (Nat → Int32)) (a16' : (Nat → Int64)) (a17' : (Nat → Int32)) (a18' : (Nat → Int32)), post (-4) (nI R, nI W.length, fl', fc', fg', fe', fw', ff', fa', a1, a2, a3, a4, a5, a6, a7', a8', a9', a10', a11', a12', a13', a14', a15', a16', a17', a18')) : wpX_source post (nI R, nI W.length, fl, fc, fg, fe, fw, ff, fa, a1, a2, a3, a4, a5, a6, a7, a8, a9, a10, a11, a12, a13, a14, a15, a16, a17, a18) (nI n) (nI (qc_c ρ R W 0 [] n)) := by
  unfold wpX_source
  have hpw : 4 ^ n ≤ 4 ^ 5 := Nat.pow_le_pow_right (by decide) hn
  have e5 : (4 : Nat) ^ 5 = 1024 := by decide
  have hcle := qc_c_le (ρ := ρ) (k := R) (W := W) 0 [] n
  refine qw_badN hn (br_t rfl (qw_use hR.1 (fun b7 h7 => qw_begin (fun b8 b9 b10 hb => ?_))))
  have hL := qc_L_of hR (Nat.le_refl R) h7
  refine qw_pack (m := qc_M ρ []) (r := 0) hR.1 (by omega) (qc_M_V qc_nil4) (qw_start ρ hR.1 hb) ?_
  rw [qc_P_nil]
  refine qw_countFrom hL hW qc_nil4 hn (by show 0 + n ≤ 12; omega) (fun fc' fg' fe' fw' ff' fa' a8' a9' a10' a11' a12' a13' a14' a15' a16' a17' => ?_)
  rw [qc_O_nil]
  exact br_f (nI_pos (by omega)) (pk_lt (qc_c ρ R W 0 [] n) (qc_c ρ R W 0 [] n) (fun z => absurd z (by omega)) (fun _ => H _ _ _ _ _ _ _ _ _ _ _ _ _ _ _ _ _ _ _))
end
section
/-! The second printing of runNumber is the first. -/
theorem qx_begin_l (post : St2 → Prop) (fr : Int32) (fs : Int32) (fl : Int32) (fc : Int32) (fg : Int32) (fe : Int32) (fw : Int32) (ff : Int32) (fa : Int32) : ∀ n, wX_begin_2_2 post fr fs fl fc fg fe fw ff fa n = wX_begin_2 post fr fs fl fc fg fe fw ff fa n := by
  intro n
  induction n with
  | zero => rfl
  | succ n ih => unfold wX_begin_2_2 wX_begin_2; rw [ih]
theorem qx_begin : @wpX_begin_2 = @wpX_begin := by
  funext post u
  unfold wpX_begin_2 wpX_begin
  simp only [qx_begin_l]
theorem qx_exch_l (post : St2 → Prop) (fr : Int32) (fs : Int32) (fl : Int32) (fc : Int32) (fg : Int32) (fe : Int32) (fw : Int32) (ff : Int32) (fa : Int32) : ∀ n, wX_exchangeWays_2_2 post fr fs fl fc fg fe fw ff fa n = wX_exchangeWays_2 post fr fs fl fc fg fe fw ff fa n := by
  intro n
  induction n with
  | zero => rfl
  | succ n ih => unfold wX_exchangeWays_2_2 wX_exchangeWays_2; rw [ih]
theorem qx_exch : @wpX_exchangeWays_2 = @wpX_exchangeWays := by
  funext post u
  unfold wpX_exchangeWays_2 wpX_exchangeWays
  simp only [qx_exch_l]
theorem qx_meet : @wpX_meet_2 = @wpX_meet := rfl
theorem qx_p42 : @wX_passRule_2_42 = @wX_passRule_42 := by
  unfold wX_passRule_2_42 wX_passRule_42
  rw [qx_exch]
theorem qx_pass_l (post : St2 → Prop) (x1 x2 : Int32) : ∀ n, wX_passRule_2_7 post x1 x2 n = wX_passRule_7 post x1 x2 n := by
  intro n
  induction n with
  | zero => rfl
  | succ n ih => unfold wX_passRule_2_7 wX_passRule_7; rw [ih, qx_meet, qx_p42]
theorem qx_pass : @wpX_passRule_2 = @wpX_passRule := by
  funext post u p0 p1
  unfold wpX_passRule_2 wpX_passRule
  simp only [qx_pass_l]
theorem qx_f129 : @wX_feed_2_129 = @wX_feed_129 := rfl
theorem qx_f130 : @wX_feed_2_130 = @wX_feed_130 := rfl
theorem qx_f56 (post : St2 → Prop) (fr : Int32) (fs : Int32) (fl : Int32) (fc : Int32) (fg : Int32) (ff : Int32) (fa : Int32) : ∀ n, wX_feed_2_56 post fr fs fl fc fg ff fa n = wX_feed_56 post fr fs fl fc fg ff fa n := by
  intro n
  induction n with
  | zero => rfl
  | succ n ih => unfold wX_feed_2_56 wX_feed_56; rw [ih, qx_f129, qx_f130]
theorem qx_f45 : @wX_feed_2_45 = @wX_feed_45 := by
  unfold wX_feed_2_45 wX_feed_45
  rw [qx_pass]
theorem qx_f25 (post : St2 → Prop) (x1 : Int32) : ∀ n, wX_feed_2_25 post x1 n = wX_feed_25 post x1 n := by
  intro n
  induction n with
  | zero => rfl
  | succ n ih =>
    unfold wX_feed_2_25 wX_feed_25
    rw [ih, qx_f45]
    simp only [qx_f56]
theorem qx_feed : @wpX_feed_2 = @wpX_feed := by
  funext post u p0
  unfold wpX_feed_2 wpX_feed
  simp only [qx_f25]
theorem qx_run_l (post : Int32 → St2 → Prop) (x1 : Int32) : ∀ n, wX_runNumber_2_8 post x1 n = wX_runNumber_8 post x1 n := by
  intro n
  induction n with
  | zero => rfl
  | succ n ih => unfold wX_runNumber_2_8 wX_runNumber_8; rw [ih, qx_feed]
theorem qx_run : @wpX_runNumber_2 = @wpX_runNumber := by
  funext post u p0 p1
  unfold wpX_runNumber_2 wpX_runNumber
  simp only [qx_run_l, qx_begin]
end
section
/-! The public methods, each from any state that holds the rules ρ and the word W. -/
theorem qw_after {post : Int32 → St2 → Prop} {fl fc fg fe fw ff fa : Int32} {a1 a2 a3 a4 a5 a6 a7 a8 a9 a10 a11 a12 a13 a15 a17 a18 : (Nat → Int32)} {a14 a16 : (Nat → Int64)} {R k : Nat} {ρ : Nat → Nat} {W : List Nat} (hR : qc_Rs a1 a2 a3 a4 a5 ρ R) (hk : k ≤ R) (hW : qc_Wd a6 W)
    (H : ∀ (fl' : Int32) (fc' : Int32) (fg' : Int32) (fe' : Int32) (fw' : Int32) (ff' : Int32) (fa' : Int32) (a7' : (Nat → Int32)) (a8' : (Nat → Int32)) (a9' : (Nat → Int32)) (a10' : (Nat → Int32)) (a11' : (Nat → Int32)) (a12' : (Nat → Int32)) (a13' : (Nat → Int32)) (a14' : (Nat → Int64)) (a15' : (Nat → Int32)) (a16' : (Nat → Int64)) (a17' : (Nat → Int32)) (a18' : (Nat → Int32)), post (nI (qc_enc (qc_R ρ k W))) (nI R, nI W.length, fl', fc', fg', fe', fw', ff', fa', a1, a2, a3, a4, a5, a6, a7', a8', a9', a10', a11', a12', a13', a14', a15', a16', a17', a18')) : wpX_after post (nI R, nI W.length, fl, fc, fg, fe, fw, ff, fa, a1, a2, a3, a4, a5, a6, a7, a8, a9, a10, a11, a12, a13, a14, a15, a16, a17, a18) (nI k) := by
  unfold wpX_after
  have hR5 := hR.1
  refine br_f (nI_pos (by omega)) (pk_le k R (fun _ => ?_) (fun z => absurd z (by omega)))
  refine qw_runWord hR hk hW (fun fw' fc' fg' a7' a8' a9' a10' a11' a12' a13' h13 => ?_)
  exact qw_code (qc_R_len k hW.2.2 hW.2.1) h13 (H _ _ _ _ _ _ _ _ _ _ _ _ _ _ _ _ _ _ _)
theorem qw_after_bad {post : Int32 → St2 → Prop} {fs fl fc fg fe fw ff fa : Int32} {a1 a2 a3 a4 a5 a6 a7 a8 a9 a10 a11 a12 a13 a15 a17 a18 : (Nat → Int32)} {a14 a16 : (Nat → Int64)} {R : Nat} (hR5 : R ≤ 5) (H : post (-1) (nI R, fs, fl, fc, fg, fe, fw, ff, fa, a1, a2, a3, a4, a5, a6, a7, a8, a9, a10, a11, a12, a13, a14, a15, a16, a17, a18)) : wpX_after post (nI R, fs, fl, fc, fg, fe, fw, ff, fa, a1, a2, a3, a4, a5, a6, a7, a8, a9, a10, a11, a12, a13, a14, a15, a16, a17, a18) (nI (R + 1)) := by
  unfold wpX_after
  exact br_f (nI_pos (by omega)) (pk_le (R + 1) R (fun z => absurd z (by omega)) (fun _ => H))
theorem qw_letter {post : Int32 → St2 → Prop} {fl fc fg fe fw ff fa : Int32} {a1 a2 a3 a4 a5 a6 a7 a8 a9 a10 a11 a12 a13 a15 a17 a18 : (Nat → Int32)} {a14 a16 : (Nat → Int64)} {R i : Nat} {ρ : Nat → Nat} {W : List Nat} (hR : qc_Rs a1 a2 a3 a4 a5 ρ R) (hW : qc_Wd a6 W) (hi : i < 2 ^ 30)
    (H0 : (qc_R ρ R W).length ≤ i → ∀ (fl' : Int32) (fc' : Int32) (fg' : Int32) (fe' : Int32) (fw' : Int32) (ff' : Int32) (fa' : Int32) (a7' : (Nat → Int32)) (a8' : (Nat → Int32)) (a9' : (Nat → Int32)) (a10' : (Nat → Int32)) (a11' : (Nat → Int32)) (a12' : (Nat → Int32)) (a13' : (Nat → Int32)) (a14' : (Nat → Int64)) (a15' : (Nat → Int32)) (a16' : (Nat → Int64)) (a17' : (Nat → Int32)) (a18' : (Nat → Int32)), post (-4) (nI R, nI W.length, fl', fc', fg', fe', fw', ff', fa', a1, a2, a3, a4, a5, a6, a7', a8', a9', a10', a11', a12', a13', a14', a15', a16', a17', a18'))
    (H1 : ∀ v, (qc_R ρ R W)[i]? = some v → ∀ (fl' : Int32) (fc' : Int32) (fg' : Int32) (fe' : Int32) (fw' : Int32) (ff' : Int32) (fa' : Int32) (a7' : (Nat → Int32)) (a8' : (Nat → Int32)) (a9' : (Nat → Int32)) (a10' : (Nat → Int32)) (a11' : (Nat → Int32)) (a12' : (Nat → Int32)) (a13' : (Nat → Int32)) (a14' : (Nat → Int64)) (a15' : (Nat → Int32)) (a16' : (Nat → Int64)) (a17' : (Nat → Int32)) (a18' : (Nat → Int32)), post (nI v) (nI R, nI W.length, fl', fc', fg', fe', fw', ff', fa', a1, a2, a3, a4, a5, a6, a7', a8', a9', a10', a11', a12', a13', a14', a15', a16', a17', a18')) : wpX_letter post (nI R, nI W.length, fl, fc, fg, fe, fw, ff, fa, a1, a2, a3, a4, a5, a6, a7, a8, a9, a10, a11, a12, a13, a14, a15, a16, a17, a18) (nI i) := by
  unfold wpX_letter
  refine qw_runWord hR (Nat.le_refl R) hW (fun fw' fc' fg' a7' a8' a9' a10' a11' a12' a13' h13 => ?_)
  have hl := qc_R_len (ρ := ρ) R hW.2.2 hW.2.1
  refine br_f (nI_pos (by omega)) (pk_lt i (qc_R ρ R W).length (fun z => ⟨pk_in i 12 (by omega), ?_⟩) (fun z => H0 z _ _ _ _ _ _ _ _ _ _ _ _ _ _ _ _ _ _ _))
  obtain ⟨v, e1, _⟩ := qc_A_get z
  rw [nI_clamp (show i < 2 ^ 31 by omega), h13 i v e1]
  exact H1 v e1 _ _ _ _ _ _ _ _ _ _ _ _ _ _ _ _ _ _ _
theorem qw_apply {post : Int32 → St2 → Prop} {fl fc fg fe fw ff fa : Int32} {a1 a2 a3 a4 a5 a6 a7 a8 a9 a10 a11 a12 a13 a15 a17 a18 : (Nat → Int32)} {a14 a16 : (Nat → Int64)} {R : Nat} {ρ : Nat → Nat} {W : List Nat} (hR : qc_Rs a1 a2 a3 a4 a5 ρ R) (hW : qc_Wd a6 W)
    (H : ∀ (a6' : Nat → Int32) (fl' : Int32) (fc' : Int32) (fg' : Int32) (fe' : Int32) (fw' : Int32) (ff' : Int32) (fa' : Int32) (a7' : (Nat → Int32)) (a8' : (Nat → Int32)) (a9' : (Nat → Int32)) (a10' : (Nat → Int32)) (a11' : (Nat → Int32)) (a12' : (Nat → Int32)) (a13' : (Nat → Int32)) (a14' : (Nat → Int64)) (a15' : (Nat → Int32)) (a16' : (Nat → Int64)) (a17' : (Nat → Int32)) (a18' : (Nat → Int32)), qc_A a6' (qc_R ρ R W) → post (nI (qc_R ρ R W).length) (nI R, nI (qc_R ρ R W).length, fl', fc', fg', fe', fw', ff', fa', a1, a2, a3, a4, a5, a6', a7', a8', a9', a10', a11', a12', a13', a14', a15', a16', a17', a18')) : wpX_apply post (nI R, nI W.length, fl, fc, fg, fe, fw, ff, fa, a1, a2, a3, a4, a5, a6, a7, a8, a9, a10, a11, a12, a13, a14, a15, a16, a17, a18) := by
  unfold wpX_apply
  refine qw_runWord hR (Nat.le_refl R) hW (fun fw' fc' fg' a7' a8' a9' a10' a11' a12' a13' h13 => ?_)
  have hl := qc_R_len (ρ := ρ) R hW.2.2 hW.2.1
  have h4 := qc_R_lt (ρ := ρ) R hW.2.2
  refine pk_loop (fun n i s => wX_apply_18 post (nI R) (nI (qc_R ρ R W).length) (nI R) fc' fg' (nI (qc_R ρ R W).length) fw' ff fa n (nI i) a1 a2 a3 a4 a5 s a7' a8' a9' a10' a11' a12' a13' a14 a15 a16 a17 a18) (fun i s => qc_A s ((qc_R ρ R W).take i)) (qc_R ρ R W).length 0 a6 (by omega) (qc_A_0 _) (fun n s h => ?_) (fun n i s hi h hw => ?_)
  · rw [List.take_length] at h
    exact pk_le _ _ (fun _ => H s _ _ _ _ _ _ _ _ _ _ _ _ _ _ _ _ _ _ _ h) (fun z => absurd z (by omega)) (hx := rfl) (hy := rfl)
  · obtain ⟨v, e1, e2, e3, e4⟩ := qc_A_get hi
    refine pk_le (qc_R ρ R W).length i (fun z => absurd z (by omega)) (fun _ => ⟨pk_in i 12 (by omega), pk_in i 12 (by omega), nm_r (e' := upd s ((qc_R ρ R W).take i).length (nI v)) ?_ (nm_r (nI_1 i) (hw _ ?_))⟩)
    · have := h4 v e2
      rw [nI_clamp (by omega), h13 i v e1, qn_nar (by omega), List.length_take, Nat.min_eq_left (by omega)]
    · rw [e4]
      exact qc_A_s h
theorem qn_or : ∀ n, n < 5 → ∀ w, w < 4 ^ n → nI (4 ^ n) ||| nI w = nI (4 ^ n + w) := by decide +kernel
theorem qc_p5 {n : Nat} (hn : n ≤ 5) : 4 ^ n ≤ 1024 := by
  have hpw : 4 ^ n ≤ 4 ^ 5 := Nat.pow_le_pow_right (by decide) hn
  have e5 : (4 : Nat) ^ 5 = 1024 := by decide
  omega
theorem qc_Rb {ρ : Nat → Nat} (k : Nat) {n : Nat} (hn : n ≤ 12) (w : Nat) : qc_enc (qc_R ρ k (qc_dg n w)) < 2 ^ 31 := by
  have := qc_enc_bound (qc_R_lt (ρ := ρ) k (qc_dg_lt n w)) (qc_R_len k (qc_dg_lt n w) (by rw [qc_dg_len]; exact hn))
  omega
theorem qw_still {post : Int32 → St2 → Prop} {fl fc fg fe fw ff fa : Int32} {a1 a2 a3 a4 a5 a6 a7 a8 a9 a10 a11 a12 a13 a15 a17 a18 : (Nat → Int32)} {a14 a16 : (Nat → Int64)} {R n : Nat} {ρ : Nat → Nat} {W : List Nat} (hR : qc_Rs a1 a2 a3 a4 a5 ρ R) (hn : n ≤ 4) (hW : qc_Wd a6 W)
    (H : ∀ (fl' : Int32) (fc' : Int32) (fg' : Int32) (fe' : Int32) (fw' : Int32) (ff' : Int32) (fa' : Int32) (a7' : (Nat → Int32)) (a8' : (Nat → Int32)) (a9' : (Nat → Int32)) (a10' : (Nat → Int32)) (a11' : (Nat → Int32)) (a12' : (Nat → Int32)) (a13' : (Nat → Int32)) (a14' : (Nat → Int64)) (a15' : (Nat → Int32)) (a16' : (Nat → Int64)) (a17' : (Nat → Int32)) (a18' : (Nat → Int32)), post (nI (qc_ct (fun w => decide (qc_R ρ R (qc_dg n w) = qc_dg n w)) (4 ^ n))) (nI R, nI W.length, fl', fc', fg', fe', fw', ff', fa', a1, a2, a3, a4, a5, a6, a7', a8', a9', a10', a11', a12', a13', a14', a15', a16', a17', a18')) : wpX_still post (nI R, nI W.length, fl, fc, fg, fe, fw, ff, fa, a1, a2, a3, a4, a5, a6, a7, a8, a9, a10, a11, a12, a13, a14, a15, a16, a17, a18) (nI n) := by
  unfold wpX_still
  have h5 := qc_p5 (show n ≤ 5 by omega)
  refine qw_badN (by omega) (br_t rfl (qw_use hR.1 (fun b7 h7 => ?_)))
  have hL := qc_L_of hR (Nat.le_refl R) h7
  refine pk_loop (σ := Int32 × Int32 × Int32 × Int32 × Int32 × (Nat → Int32) × (Nat → Int32) × (Nat → Int32) × (Nat → Int32) × (Nat → Int32) × (Nat → Int32)) (fun f w s => wX_still_22 post (nI n) f s.1 (nI w) (nI R) (nI W.length) (nI R) s.2.1 s.2.2.1 s.2.2.2.1 s.2.2.2.2.1 ff fa a1 a2 a3 a4 a5 a6 b7 s.2.2.2.2.2.1 s.2.2.2.2.2.2.1 s.2.2.2.2.2.2.2.1 s.2.2.2.2.2.2.2.2.1 s.2.2.2.2.2.2.2.2.2.1 s.2.2.2.2.2.2.2.2.2.2 a14 a15 a16 a17 a18)
    (fun w s => s.1 = nI (qc_ct (fun w => decide (qc_R ρ R (qc_dg n w) = qc_dg n w)) w)) (4 ^ n) 0 (0, fc, fg, fe, fw, a8, a9, a10, a11, a12, a13) (Nat.zero_le _) rfl (fun f s h => ?_) (fun f w s hi h hw => ?_)
  · obtain ⟨v, fc', fg', fe', fw', a8', a9', a10', a11', a12', a13'⟩ := s
    dsimp only at h ⊢
    subst h
    exact pk_le (4 ^ n) (4 ^ n) (fun _ => H _ _ _ _ _ _ _ _ _ _ _ _ _ _ _ _ _ _ _) (fun z => absurd z (by omega)) (hx := qn_p1 n (by omega))
  · obtain ⟨v, fc', fg', fe', fw', a8', a9', a10', a11', a12', a13'⟩ := s
    dsimp only at h ⊢
    subst h
    refine pk_le (4 ^ n) w (fun z => absurd z (by omega)) (fun _ => ?_) (hx := qn_p1 n (by omega))
    rw [qn_p1 n (by omega), qn_or n (by omega) w hi]
    refine qw_runNumber hL (by omega) (by omega) hW (fun fc'' fg'' fe'' fw'' a8'' a9'' a10'' a11'' a12'' a13'' => ?_)
    have hb := qc_Rb (ρ := ρ) R (show n ≤ 12 by omega) w
    have he := qc_enc_dg n w hi
    have hd : qc_R ρ R (qc_dg n w) = qc_dg n w ↔ qc_enc (qc_R ρ R (qc_dg n w)) = 4 ^ n + w := by
      rw [← he]
      exact ⟨fun z => by rw [z], fun z => qc_enc_inj (qc_R_lt R (qc_dg_lt n w)) (qc_dg_lt n w) z⟩
    refine pk_eq (qc_enc (qc_R ρ R (qc_dg n w))) (4 ^ n + w) (fun z => nm_r (nI_1 _) (nm_r (nI_1 w) (hw (nI (qc_ct (fun w => decide (qc_R ρ R (qc_dg n w) = qc_dg n w)) w + 1), _, _, _, _, _, _, _, _, _, _) ?_))) (fun z => nm_r (nI_1 w) (hw (nI (qc_ct (fun w => decide (qc_R ρ R (qc_dg n w) = qc_dg n w)) w), _, _, _, _, _, _, _, _, _, _) ?_))
    · refine congrArg nI ?_
      rw [qc_ct_s, decide_eq_true (hd.mpr z)]
      rfl
    · refine congrArg nI ?_
      rw [qc_ct_s, decide_eq_false (fun y => z (hd.mp y))]
      rfl
theorem qw_keepAll {post : St2 → Prop} {fl fc fg fe fw ff fa : Int32} {a1 a2 a3 a4 a5 a6 a7 a8 a9 a10 a11 a12 a13 a15 a17 a18 : (Nat → Int32)} {a14 a16 : (Nat → Int64)} {R n : Nat} {ρ : Nat → Nat} {W : List Nat} (hR : qc_Rs a1 a2 a3 a4 a5 ρ R) (hn : n ≤ 5) (hW : qc_Wd a6 W)
    (H : ∀ (b7 : Nat → Int32) (fc' : Int32) (fg' : Int32) (fe' : Int32) (fw' : Int32) (a8' : (Nat → Int32)) (a9' : (Nat → Int32)) (a10' : (Nat → Int32)) (a11' : (Nat → Int32)) (a12' : (Nat → Int32)) (a13' : (Nat → Int32)) (a18' : (Nat → Int32)), (∀ s, s < R → b7 s = nI s) → (∀ w, w < 4 ^ n → a18' w = nI (qc_enc (qc_R ρ R (qc_dg n w)))) → post (nI R, nI W.length, nI R, fc', fg', fe', fw', ff, fa, a1, a2, a3, a4, a5, a6, b7, a8', a9', a10', a11', a12', a13', a14, a15, a16, a17, a18')) : wpX_keepAll post (nI R, nI W.length, fl, fc, fg, fe, fw, ff, fa, a1, a2, a3, a4, a5, a6, a7, a8, a9, a10, a11, a12, a13, a14, a15, a16, a17, a18) (nI n) := by
  unfold wpX_keepAll
  have h5 := qc_p5 hn
  refine qw_use hR.1 (fun b7 h7 => ?_)
  have hL := qc_L_of hR (Nat.le_refl R) h7
  refine pk_loop (σ := (Nat → Int32) × Int32 × Int32 × Int32 × Int32 × (Nat → Int32) × (Nat → Int32) × (Nat → Int32) × (Nat → Int32) × (Nat → Int32) × (Nat → Int32)) (fun f w s => wX_keepAll_10 post (nI n) f (nI w) (nI R) (nI W.length) (nI R) s.2.1 s.2.2.1 s.2.2.2.1 s.2.2.2.2.1 ff fa a1 a2 a3 a4 a5 a6 b7 s.2.2.2.2.2.1 s.2.2.2.2.2.2.1 s.2.2.2.2.2.2.2.1 s.2.2.2.2.2.2.2.2.1 s.2.2.2.2.2.2.2.2.2.1 s.2.2.2.2.2.2.2.2.2.2 a14 a15 a16 a17 s.1)
    (fun i s => ∀ w, w < i → s.1 w = nI (qc_enc (qc_R ρ R (qc_dg n w)))) (4 ^ n) 0 (a18, fc, fg, fe, fw, a8, a9, a10, a11, a12, a13) (Nat.zero_le _) (fun w h => absurd h (by omega)) (fun f s h => ?_) (fun f w s hi h hw => ?_)
  · obtain ⟨v, fc', fg', fe', fw', a8', a9', a10', a11', a12', a13'⟩ := s
    dsimp only at h ⊢
    exact pk_le (4 ^ n) (4 ^ n) (fun _ => H b7 _ _ _ _ _ _ _ _ _ _ v h7 h) (fun z => absurd z (by omega)) (hx := qn_p1 n (by omega))
  · obtain ⟨v, fc', fg', fe', fw', a8', a9', a10', a11', a12', a13'⟩ := s
    dsimp only at h ⊢
    refine pk_le (4 ^ n) w (fun z => absurd z (by omega)) (fun _ => ?_) (hx := qn_p1 n (by omega))
    rw [qx_run]
    refine qw_runNumber hL (by omega) (by omega) hW (fun fc'' fg'' fe'' fw'' a8'' a9'' a10'' a11'' a12'' a13'' => ⟨pk_in w 1024 (by omega), nm_r (e' := upd v w (nI (qc_enc (qc_R ρ R (qc_dg n w))))) (by rw [nI_clamp (by omega)]) (nm_r (nI_1 w) (hw (upd v w (nI (qc_enc (qc_R ρ R (qc_dg n w)))), _, _, _, _, _, _, _, _, _, _) (fun j hj => ?_)))⟩)
    dsimp only
    by_cases z : j = w
    · rw [z, pk_us]
    · rw [pk_un z]
      exact h j (by omega)
theorem qw_sameAll {post : Int32 → St2 → Prop} {fr fc fg fe fw ff fa : Int32} {a1 a2 a3 a4 a5 a6 a7 a8 a9 a10 a11 a12 a13 a15 a17 a18 : (Nat → Int32)} {a14 a16 : (Nat → Int64)} {k n : Nat} {ρ : Nat → Nat} {W : List Nat} {cd : Nat → Nat} (hL : qc_L a1 a2 a3 a4 a5 a7 ρ k) (hn : n ≤ 5) (hW : qc_Wd a6 W) (h18 : ∀ w, w < 4 ^ n → a18 w = nI (cd w)) (hcd : ∀ w, w < 4 ^ n → cd w < 2 ^ 31)
    (H : ∀ (b : Bool) (fc' : Int32) (fg' : Int32) (fe' : Int32) (fw' : Int32) (a8' : (Nat → Int32)) (a9' : (Nat → Int32)) (a10' : (Nat → Int32)) (a11' : (Nat → Int32)) (a12' : (Nat → Int32)) (a13' : (Nat → Int32)), (b = true ↔ ∀ w, w < 4 ^ n → qc_enc (qc_R ρ k (qc_dg n w)) = cd w) → post (qn_w b) (fr, nI W.length, nI k, fc', fg', fe', fw', ff, fa, a1, a2, a3, a4, a5, a6, a7, a8', a9', a10', a11', a12', a13', a14, a15, a16, a17, a18)) : wpX_sameAll post (fr, nI W.length, nI k, fc, fg, fe, fw, ff, fa, a1, a2, a3, a4, a5, a6, a7, a8, a9, a10, a11, a12, a13, a14, a15, a16, a17, a18) (nI n) := by
  unfold wpX_sameAll
  have h5 := qc_p5 hn
  refine pk_loop (σ := Int32 × Int32 × Int32 × Int32 × Int32 × (Nat → Int32) × (Nat → Int32) × (Nat → Int32) × (Nat → Int32) × (Nat → Int32) × (Nat → Int32)) (fun f w s => wX_sameAll_4 post (nI n) f s.1 (nI w) fr (nI W.length) (nI k) s.2.1 s.2.2.1 s.2.2.2.1 s.2.2.2.2.1 ff fa a1 a2 a3 a4 a5 a6 a7 s.2.2.2.2.2.1 s.2.2.2.2.2.2.1 s.2.2.2.2.2.2.2.1 s.2.2.2.2.2.2.2.2.1 s.2.2.2.2.2.2.2.2.2.1 s.2.2.2.2.2.2.2.2.2.2 a14 a15 a16 a17 a18)
    (fun i s => ∃ b : Bool, s.1 = qn_w b ∧ (b = true ↔ ∀ w, w < i → qc_enc (qc_R ρ k (qc_dg n w)) = cd w)) (4 ^ n) 0 (1, fc, fg, fe, fw, a8, a9, a10, a11, a12, a13) (Nat.zero_le _) ⟨true, rfl, fun _ w h => absurd h (by omega), fun _ => rfl⟩ (fun f s h => ?_) (fun f w s hi h hw => ?_)
  · obtain ⟨v, fc', fg', fe', fw', a8', a9', a10', a11', a12', a13'⟩ := s
    obtain ⟨b, h1, h2⟩ := h
    dsimp only at h1 ⊢
    subst h1
    exact pk_le (4 ^ n) (4 ^ n) (fun _ => ⟨qw_wr.1, H b _ _ _ _ _ _ _ _ _ _ h2⟩) (fun z => absurd z (by omega)) (hx := qn_p1 n (by omega))
  · obtain ⟨v, fc', fg', fe', fw', a8', a9', a10', a11', a12', a13'⟩ := s
    obtain ⟨b, h1, h2⟩ := h
    dsimp only at h1 ⊢
    subst h1
    refine pk_le (4 ^ n) w (fun z => absurd z (by omega)) (fun _ => qw_brb (fun hb => ⟨qw_wr.1, H b _ _ _ _ _ _ _ _ _ _ ?_⟩) (fun hb => ?_)) (hx := qn_p1 n (by omega))
    · rw [h2]
      refine ⟨fun g => ?_, fun g j hj => g j (by omega)⟩
      rw [h2.mpr g] at hb
      exact absurd hb (by decide)
    · have g := h2.mp hb
      have hb' := qc_Rb (ρ := ρ) k (show n ≤ 12 by omega) w
      have hc' := hcd w hi
      refine qw_runNumber hL (by omega) (by omega) hW (fun fc'' fg'' fe'' fw'' a8'' a9'' a10'' a11'' a12'' a13'' => ⟨pk_in w 1024 (by omega), ?_⟩)
      refine pk_eq (qc_enc (qc_R ρ k (qc_dg n w))) (cd w) (fun z => nm_r (nI_1 w) (hw (1, _, _, _, _, _, _, _, _, _, _) ⟨true, rfl, fun _ => ?_, fun _ => rfl⟩)) (fun z => nm_r (nI_1 w) (hw (0, _, _, _, _, _, _, _, _, _, _) ⟨false, rfl, fun y => absurd y (by decide), fun y => absurd (y w (by omega)) z⟩)) (hy := by rw [nI_clamp (by omega)]; exact h18 w hi)
      intro j hj
      by_cases y : j = w
      · rw [y, z]
      · exact g j (by omega)
theorem qw_idle {post : Int32 → St2 → Prop} {fl fc fg fe fw ff fa : Int32} {a1 a2 a3 a4 a5 a6 a7 a8 a9 a10 a11 a12 a13 a15 a17 a18 : (Nat → Int32)} {a14 a16 : (Nat → Int64)} {R n : Nat} {ρ : Nat → Nat} {W : List Nat} (hR : qc_Rs a1 a2 a3 a4 a5 ρ (R + 1)) (hn : n ≤ 5) (hW : qc_Wd a6 W)
    (H : ∀ (b : Bool) (fl' : Int32) (fc' : Int32) (fg' : Int32) (fe' : Int32) (fw' : Int32) (ff' : Int32) (fa' : Int32) (a7' : (Nat → Int32)) (a8' : (Nat → Int32)) (a9' : (Nat → Int32)) (a10' : (Nat → Int32)) (a11' : (Nat → Int32)) (a12' : (Nat → Int32)) (a13' : (Nat → Int32)) (a14' : (Nat → Int64)) (a15' : (Nat → Int32)) (a16' : (Nat → Int64)) (a17' : (Nat → Int32)) (a18' : (Nat → Int32)), (b = true ↔ ∀ w, w < 4 ^ n → qc_R (fun s => ρ (s + 1)) R (qc_dg n w) = qc_R ρ (R + 1) (qc_dg n w)) → post (qn_w b) (nI (R + 1), nI W.length, fl', fc', fg', fe', fw', ff', fa', a1, a2, a3, a4, a5, a6, a7', a8', a9', a10', a11', a12', a13', a14', a15', a16', a17', a18')) : wpX_idle post (nI (R + 1), nI W.length, fl, fc, fg, fe, fw, ff, fa, a1, a2, a3, a4, a5, a6, a7, a8, a9, a10, a11, a12, a13, a14, a15, a16, a17, a18) 0 (nI n) := by
  unfold wpX_idle
  have hR5 := hR.1
  refine br_f (by decide) (pk_lt 0 (R + 1) (fun _ => ?_) (fun z => absurd z (by omega)))
  refine qw_badN hn (br_t rfl (qw_keepAll hR hn hW (fun b7 fc' fg' fe' fw' a8' a9' a10' a11' a12' a13' a18' h7 h18 => nm_r (nI_pred R) ?_)))
  refine pk_loop (fun f i s => wX_idle_42 post (nI n) (nI (R + 1)) (nI W.length) (nI R) fc' fg' fe' fw' ff fa f (nI i) a1 a2 a3 a4 a5 a6 s a8' a9' a10' a11' a12' a13' a14 a15 a16 a17 a18')
    (fun i s => ∀ j, j < i → s j = nI (j + 1)) R 0 b7 (by omega) (fun j h => absurd h (by omega)) (fun f s h => ?_) (fun f i s hi h hw => ?_)
  · refine pk_le R R (fun _ => ?_) (fun z => absurd z (by omega))
    have hL : qc_L a1 a2 a3 a4 a5 s (fun s => ρ (s + 1)) R := ⟨by omega, fun j hj => ⟨j + 1, by omega, h j hj, hR.2 (j + 1) (by omega)⟩⟩
    refine qw_sameAll hL hn hW h18 (fun w _ => qc_Rb (R + 1) (by omega) w) (fun b fc'' fg'' fe'' fw'' a8'' a9'' a10'' a11'' a12'' a13'' hb => ?_)
    have hb' : b = true ↔ ∀ w, w < 4 ^ n → qc_R (fun s => ρ (s + 1)) R (qc_dg n w) = qc_R ρ (R + 1) (qc_dg n w) := by
      rw [hb]
      exact ⟨fun g w hw => qc_enc_inj (qc_R_lt R (qc_dg_lt n w)) (qc_R_lt (R + 1) (qc_dg_lt n w)) (g w hw), fun g w hw => by rw [g w hw]⟩
    have HH := H b
    refine qw_brb (fun e => ?_) (fun e => ?_)
    · subst e
      exact HH _ _ _ _ _ _ _ _ _ _ _ _ _ _ _ _ _ _ _ hb'
    · subst e
      exact HH _ _ _ _ _ _ _ _ _ _ _ _ _ _ _ _ _ _ _ hb'
  · refine pk_le R i (fun z => absurd z (by omega)) (fun _ => ⟨pk_in i 5 (by omega), nm_r (e' := upd s i (nI (i + 1))) (by rw [nI_clamp (by omega), nI_1, qn_b (i + 1) (by omega)]) (nm_r (nI_1 i) (hw _ (fun j hj => ?_)))⟩)
    by_cases z : j = i
    · rw [z, pk_us]
    · rw [pk_un z]
      exact h j (by omega)
def qc_sw (ρ : Nat → Nat) : Nat → Nat := fun s => if s = 0 then ρ 1 else if s = 1 then ρ 0 else ρ s
theorem qw_commute {post : Int32 → St2 → Prop} {fl fc fg fe fw ff fa : Int32} {a1 a2 a3 a4 a5 a6 a7 a8 a9 a10 a11 a12 a13 a15 a17 a18 : (Nat → Int32)} {a14 a16 : (Nat → Int64)} {R n : Nat} {ρ : Nat → Nat} {W : List Nat} (hR : qc_Rs a1 a2 a3 a4 a5 ρ (R + 2)) (hn : n ≤ 5) (hW : qc_Wd a6 W)
    (H : ∀ (b : Bool) (fl' : Int32) (fc' : Int32) (fg' : Int32) (fe' : Int32) (fw' : Int32) (ff' : Int32) (fa' : Int32) (a7' : (Nat → Int32)) (a8' : (Nat → Int32)) (a9' : (Nat → Int32)) (a10' : (Nat → Int32)) (a11' : (Nat → Int32)) (a12' : (Nat → Int32)) (a13' : (Nat → Int32)) (a14' : (Nat → Int64)) (a15' : (Nat → Int32)) (a16' : (Nat → Int64)) (a17' : (Nat → Int32)) (a18' : (Nat → Int32)), (b = true ↔ ∀ w, w < 4 ^ n → qc_R (qc_sw ρ) (R + 2) (qc_dg n w) = qc_R ρ (R + 2) (qc_dg n w)) → post (qn_w b) (nI (R + 2), nI W.length, fl', fc', fg', fe', fw', ff', fa', a1, a2, a3, a4, a5, a6, a7', a8', a9', a10', a11', a12', a13', a14', a15', a16', a17', a18')) : wpX_commute post (nI (R + 2), nI W.length, fl, fc, fg, fe, fw, ff, fa, a1, a2, a3, a4, a5, a6, a7, a8, a9, a10, a11, a12, a13, a14, a15, a16, a17, a18) 0 (nI n) := by
  unfold wpX_commute
  have hR5 := hR.1
  refine br_f (by decide) (pk_lt 0 (R + 1) (fun _ => ?_) (fun z => absurd z (by omega)) (hy := nI_pred (R + 1)))
  refine qw_badN hn (br_t rfl (qw_keepAll hR hn hW (fun b7 fc' fg' fe' fw' a8' a9' a10' a11' a12' a13' a18' h7 h18 => ⟨pk_in 0 5 (by omega), nm_r (e' := upd b7 0 (nI 1)) ?_ ⟨pk_in 1 5 (by omega), nm_r (e' := upd (upd b7 0 (nI 1)) 1 (nI 0)) ?_ ?_⟩⟩)))
  · rfl
  · rfl
  · have hL : qc_L a1 a2 a3 a4 a5 (upd (upd b7 0 (nI 1)) 1 (nI 0)) (qc_sw ρ) (R + 2) := by
      refine ⟨by omega, fun j hj => ?_⟩
      by_cases z0 : j = 0
      · subst z0
        exact ⟨1, by omega, rfl, hR.2 1 (by omega)⟩
      · by_cases z1 : j = 1
        · subst z1
          exact ⟨0, by omega, rfl, hR.2 0 (by omega)⟩
        · refine ⟨j, by omega, ?_, ?_⟩
          · rw [pk_un z1, pk_un z0]
            exact h7 j hj
          · have e : qc_sw ρ j = ρ j := by
              unfold qc_sw
              rw [if_neg z0, if_neg z1]
            rw [e]
            exact hR.2 j hj
    refine qw_sameAll hL hn hW h18 (fun w _ => qc_Rb (R + 2) (by omega) w) (fun b fc'' fg'' fe'' fw'' a8'' a9'' a10'' a11'' a12'' a13'' hb => ?_)
    have hb' : b = true ↔ ∀ w, w < 4 ^ n → qc_R (qc_sw ρ) (R + 2) (qc_dg n w) = qc_R ρ (R + 2) (qc_dg n w) := by
      rw [hb]
      exact ⟨fun g w hw => qc_enc_inj (qc_R_lt (R + 2) (qc_dg_lt n w)) (qc_R_lt (R + 2) (qc_dg_lt n w)) (g w hw), fun g w hw => by rw [g w hw]⟩
    have HH := H b
    refine qw_brb (fun e => ?_) (fun e => ?_)
    · subst e
      exact HH _ _ _ _ _ _ _ _ _ _ _ _ _ _ _ _ _ _ _ hb'
    · subst e
      exact HH _ _ _ _ _ _ _ _ _ _ _ _ _ _ _ _ _ _ _ hb'
theorem qw_commute1 {post : Int32 → St2 → Prop} {fs fl fc fg fe fw ff fa : Int32} {a1 a2 a3 a4 a5 a6 a7 a8 a9 a10 a11 a12 a13 a15 a17 a18 : (Nat → Int32)} {a14 a16 : (Nat → Int64)} {n : Int32} (H : post (-4) (nI 1, fs, fl, fc, fg, fe, fw, ff, fa, a1, a2, a3, a4, a5, a6, a7, a8, a9, a10, a11, a12, a13, a14, a15, a16, a17, a18)) : wpX_commute post (nI 1, fs, fl, fc, fg, fe, fw, ff, fa, a1, a2, a3, a4, a5, a6, a7, a8, a9, a10, a11, a12, a13, a14, a15, a16, a17, a18) 0 n := by
  unfold wpX_commute
  exact br_f (by decide) (br_f (by decide) H)
end
section
/-! images; push; rule. -/
theorem qw_ins {post : Int32 → St2 → Prop} {fr fs fl fc fg fe fw ff fa : Int32} {a1 a2 a3 a4 a5 a6 a7 a8 a9 a10 a11 a12 a13 a15 a17 a18 : (Nat → Int32)} {a14 a16 : (Nat → Int64)} {c l : Nat} {x : Int32} (hc : c < 1024) (hl : l ≤ c) (H1 : ∀ a18' : Nat → Int32, post (nI (c + 1)) (fr, fs, fl, fc, fg, fe, fw, ff, fa, a1, a2, a3, a4, a5, a6, a7, a8, a9, a10, a11, a12, a13, a14, a15, a16, a17, a18')) : ∃ n, wX_keepCode_65 post x (nI c) (nI l) fr fs fl fc fg fe fw ff fa n (nI c) a1 a2 a3 a4 a5 a6 a7 a8 a9 a10 a11 a12 a13 a14 a15 a16 a17 a18 := by
  have := pk_loopD (σ := Nat → Int32) (fun f j s => wX_keepCode_65 post x (nI c) (nI l) fr fs fl fc fg fe fw ff fa f (nI (l + j)) a1 a2 a3 a4 a5 a6 a7 a8 a9 a10 a11 a12 a13 a14 a15 a16 a17 s) (fun j _ => l + j ≤ c)
    (fun f s h => pk_le (l + 0) l (fun _ => ⟨pk_in l 1024 (by omega), nm_e (by rw [nI_1]; exact H1 _)⟩) (fun z => absurd z (by omega)))
    (fun f j s h hw => pk_le (l + (j + 1)) l (fun z => absurd z (by omega)) (fun _ => ⟨pk_in (l + j) 1024 (by omega) (nI_pred (l + j)), pk_in (l + (j + 1)) 1024 (by omega), nm_e (nm_r (pk_m1 (l + j)) (hw _ (by omega)))⟩))
    (c - l) a18 (by omega)
  rw [show l + (c - l) = c by omega] at this
  exact ⟨_, this⟩
theorem qw_keepCode {post : Int32 → St2 → Prop} {fr fs fl fc fg fe fw ff fa : Int32} {a1 a2 a3 a4 a5 a6 a7 a8 a9 a10 a11 a12 a13 a15 a17 a18 : (Nat → Int32)} {a14 a16 : (Nat → Int64)} {c : Nat} {x : Int32} (hc : c < 1024) (H0 : 0 < c → post (nI c) (fr, fs, fl, fc, fg, fe, fw, ff, fa, a1, a2, a3, a4, a5, a6, a7, a8, a9, a10, a11, a12, a13, a14, a15, a16, a17, a18)) (H1 : ∀ a18' : Nat → Int32, post (nI (c + 1)) (fr, fs, fl, fc, fg, fe, fw, ff, fa, a1, a2, a3, a4, a5, a6, a7, a8, a9, a10, a11, a12, a13, a14, a15, a16, a17, a18')) : wpX_keepCode post (fr, fs, fl, fc, fg, fe, fw, ff, fa, a1, a2, a3, a4, a5, a6, a7, a8, a9, a10, a11, a12, a13, a14, a15, a16, a17, a18) x (nI c) := by
  unfold wpX_keepCode
  refine loop_m (σ := Nat × Nat) (fun n s => wX_keepCode_5 post x (nI c) fr fs fl fc fg fe fw ff fa a1 a2 a3 a4 a5 a6 a7 a8 a9 a10 a11 a12 a13 a14 a15 a16 a17 a18 n (nI s.1) (nI s.2)) (fun s => s.1 ≤ s.2 ∧ s.2 ≤ c) (fun s => s.2 - s.1) (fun n s h hw => ?_) (0, c) ⟨Nat.zero_le c, Nat.le_refl c⟩
  obtain ⟨l, h'⟩ := s
  obtain ⟨h1, h2⟩ := h
  dsimp only at h1 h2 hw ⊢
  refine pk_le h' l (fun z => pk_le c l (fun z' => qw_ins hc (by omega) H1) (fun z' => ⟨pk_in l 1024 (by omega), br_c (fun _ => H0 (by omega)) (fun _ => qw_ins hc (by omega) H1)⟩)) (fun z => ⟨by decide, nm_r (e' := nI ((l + h') / 2)) ?_ ⟨pk_in ((l + h') / 2) 1024 (by omega), br_c (fun _ => hw (l, (l + h') / 2) ⟨by show l ≤ (l + h') / 2; omega, by show (l + h') / 2 ≤ c; omega⟩ (by show (l + h') / 2 - l < h' - l; omega)) (fun _ => nm_r (nI_1 _) (hw ((l + h') / 2 + 1, h') ⟨by show (l + h') / 2 + 1 ≤ h'; omega, h2⟩ (by show h' - ((l + h') / 2 + 1) < h' - l; omega)))⟩⟩)
  rw [nI_add]
  exact pk_div (by omega) (by decide) (by decide)
theorem qw_images {post : Int32 → St2 → Prop} {fl fc fg fe fw ff fa : Int32} {a1 a2 a3 a4 a5 a6 a7 a8 a9 a10 a11 a12 a13 a15 a17 a18 : (Nat → Int32)} {a14 a16 : (Nat → Int64)} {R n : Nat} {ρ : Nat → Nat} {W : List Nat} (hR : qc_Rs a1 a2 a3 a4 a5 ρ R) (hn : n ≤ 4) (hW : qc_Wd a6 W)
    (H : ∀ (c : Nat) (fl' : Int32) (fc' : Int32) (fg' : Int32) (fe' : Int32) (fw' : Int32) (ff' : Int32) (fa' : Int32) (a7' : (Nat → Int32)) (a8' : (Nat → Int32)) (a9' : (Nat → Int32)) (a10' : (Nat → Int32)) (a11' : (Nat → Int32)) (a12' : (Nat → Int32)) (a13' : (Nat → Int32)) (a14' : (Nat → Int64)) (a15' : (Nat → Int32)) (a16' : (Nat → Int64)) (a17' : (Nat → Int32)) (a18' : (Nat → Int32)), 1 ≤ c → c ≤ 4 ^ n → post (nI c) (nI R, nI W.length, fl', fc', fg', fe', fw', ff', fa', a1, a2, a3, a4, a5, a6, a7', a8', a9', a10', a11', a12', a13', a14', a15', a16', a17', a18')) : wpX_images post (nI R, nI W.length, fl, fc, fg, fe, fw, ff, fa, a1, a2, a3, a4, a5, a6, a7, a8, a9, a10, a11, a12, a13, a14, a15, a16, a17, a18) (nI n) := by
  unfold wpX_images
  have h4 : 4 ^ n ≤ 4 ^ 4 := Nat.pow_le_pow_right (by decide) hn
  have e4 : (4 : Nat) ^ 4 = 256 := by decide
  have hpos : 0 < 4 ^ n := Nat.pow_pos (by decide)
  refine qw_badN (by omega) (br_t rfl (qw_use hR.1 (fun b7 h7 => ?_)))
  have hL := qc_L_of hR (Nat.le_refl R) h7
  refine pk_loop (σ := Int32 × (Nat → Int32) × Int32 × Int32 × Int32 × Int32 × (Nat → Int32) × (Nat → Int32) × (Nat → Int32) × (Nat → Int32) × (Nat → Int32) × (Nat → Int32)) (fun f w s => wX_images_22 post (nI n) f s.1 (nI w) (nI R) (nI W.length) (nI R) s.2.2.1 s.2.2.2.1 s.2.2.2.2.1 s.2.2.2.2.2.1 ff fa a1 a2 a3 a4 a5 a6 b7 s.2.2.2.2.2.2.1 s.2.2.2.2.2.2.2.1 s.2.2.2.2.2.2.2.2.1 s.2.2.2.2.2.2.2.2.2.1 s.2.2.2.2.2.2.2.2.2.2.1 s.2.2.2.2.2.2.2.2.2.2.2 a14 a15 a16 a17 s.2.1)
    (fun w s => ∃ c, s.1 = nI c ∧ c ≤ w ∧ (0 < w → 1 ≤ c)) (4 ^ n) 0 (0, a18, fc, fg, fe, fw, a8, a9, a10, a11, a12, a13) (Nat.zero_le _) ⟨0, rfl, Nat.le_refl 0, fun h => absurd h (by omega)⟩ (fun f s h => ?_) (fun f w s hi h hw => ?_)
  · obtain ⟨v, a18', fc', fg', fe', fw', a8', a9', a10', a11', a12', a13'⟩ := s
    obtain ⟨c, h1, h2, h3⟩ := h
    dsimp only at h1 ⊢
    subst h1
    exact pk_le (4 ^ n) (4 ^ n) (fun _ => H c _ _ _ _ _ _ _ _ _ _ _ _ _ _ _ _ _ _ _ (h3 hpos) h2) (fun z => absurd z (by omega)) (hx := qn_p1 n (by omega))
  · obtain ⟨v, a18', fc', fg', fe', fw', a8', a9', a10', a11', a12', a13'⟩ := s
    obtain ⟨c, h1, h2, h3⟩ := h
    dsimp only at h1 ⊢
    subst h1
    refine pk_le (4 ^ n) w (fun z => absurd z (by omega)) (fun _ => ?_) (hx := qn_p1 n (by omega))
    refine qw_runNumber hL (by omega) (by omega) hW (fun fc'' fg'' fe'' fw'' a8'' a9'' a10'' a11'' a12'' a13'' => ?_)
    exact qw_keepCode (by omega) (fun hc => nm_r (nI_1 w) (hw (nI c, _, _, _, _, _, _, _, _, _, _, _) ⟨c, rfl, by omega, fun _ => hc⟩)) (fun b18 => nm_r (nI_1 w) (hw (nI (c + 1), _, _, _, _, _, _, _, _, _, _, _) ⟨c + 1, rfl, by omega, fun _ => by omega⟩))
theorem qw_badL {post : Int32 → Prop} {fr fs fl fc fg fe fw ff fa : Int32} {a1 a2 a3 a4 a5 a6 a7 a8 a9 a10 a11 a12 a13 a15 a17 a18 : (Nat → Int32)} {a14 a16 : (Nat → Int64)} {d : Nat} (hd : d < 4) (H : post 0) : wpX_badLetter post (fr, fs, fl, fc, fg, fe, fw, ff, fa, a1, a2, a3, a4, a5, a6, a7, a8, a9, a10, a11, a12, a13, a14, a15, a16, a17, a18) (nI d) := by
  unfold wpX_badLetter
  exact br_f (nI_pos (by omega)) (pk_le d 3 (fun _ => H) (fun z => absurd z (by omega)))
theorem qw_push {post : Int32 → St2 → Prop} {fr fl fc fg fe fw ff fa : Int32} {a1 a2 a3 a4 a5 a6 a7 a8 a9 a10 a11 a12 a13 a15 a17 a18 : (Nat → Int32)} {a14 a16 : (Nat → Int64)} {d : Nat} {W : List Nat} (hd : d < 4) (hW : qc_Wd a6 W) (hl : W.length < 12)
    (H : ∀ a6' : Nat → Int32, qc_Wd a6' (W ++ [d]) → post (nI (W.length + 1)) (fr, nI (W.length + 1), fl, fc, fg, fe, fw, ff, fa, a1, a2, a3, a4, a5, a6', a7, a8, a9, a10, a11, a12, a13, a14, a15, a16, a17, a18)) : wpX_push post (fr, nI W.length, fl, fc, fg, fe, fw, ff, fa, a1, a2, a3, a4, a5, a6, a7, a8, a9, a10, a11, a12, a13, a14, a15, a16, a17, a18) (nI d) := by
  unfold wpX_push
  refine qw_badL hd (br_t rfl (pk_eq W.length 12 (fun z => absurd z (by omega)) (fun _ => ⟨pk_in W.length 12 hl, nm_r (e' := upd a6 W.length (nI d)) (by rw [nI_clamp (by omega), qn_b d (by omega)]) (nm_r (nI_1 _) (H _ ⟨qc_A_s hW.1, ?_, qc_app4 hW.2.2 hd⟩))⟩)))
  rw [List.length_append]
  exact hl
theorem qw_push_full {post : Int32 → St2 → Prop} {fr fl fc fg fe fw ff fa : Int32} {a1 a2 a3 a4 a5 a6 a7 a8 a9 a10 a11 a12 a13 a15 a17 a18 : (Nat → Int32)} {a14 a16 : (Nat → Int64)} {d : Nat} (hd : d < 4) (H : post (-2) (fr, nI 12, fl, fc, fg, fe, fw, ff, fa, a1, a2, a3, a4, a5, a6, a7, a8, a9, a10, a11, a12, a13, a14, a15, a16, a17, a18)) : wpX_push post (fr, nI 12, fl, fc, fg, fe, fw, ff, fa, a1, a2, a3, a4, a5, a6, a7, a8, a9, a10, a11, a12, a13, a14, a15, a16, a17, a18) (nI d) := by
  unfold wpX_push
  exact qw_badL hd (br_t rfl (br_t rfl H))
theorem qn_add : ∀ n, n < 4 → ∀ s, s < 1024 → (nI s &&& 31).toInt8.toInt32 = nI (s % 32) ∧ (nI s >>> ((5 : Int32) &&& 31)).toInt8.toInt32 = nI (s / 32) := by decide +kernel
/-- the rows after a rule is put behind R rules -/
theorem qc_Ru_un {a1 a2 a3 a4 a5 : Nat → Int32} {r ρ R : Nat} {v1 v2 v3 v4 v5 : Int32} (hr : r < R) (h : qc_Ru a1 a2 a3 a4 a5 r ρ) : qc_Ru (upd a1 R v1) (upd a2 R v2) (upd a3 R v3) (upd a4 R v4) (upd a5 R v5) r ρ := by
  unfold qc_Ru
  rw [pk_un (by omega), pk_un (by omega), pk_un (by omega), pk_un (by omega), pk_un (by omega)]
  exact h
theorem qw_rule {post : Int32 → St2 → Prop} {fs fl fc fg fe fw ff fa : Int32} {a1 a2 a3 a4 a5 a6 a7 a8 a9 a10 a11 a12 a13 a15 a17 a18 : (Nat → Int32)} {a14 a16 : (Nat → Int64)} {R ρ : Nat} (hR : R < 5) (hk : qc_k ρ < 3)
    (H : ∀ (v2 v3 : Int32), (qc_k ρ ≠ 2 → v2 = nI (qc_x ρ)) → (qc_k ρ ≠ 1 → v3 = nI (qc_y ρ)) → post (nI (R + 1)) (nI (R + 1), fs, fl, fc, fg, fe, fw, ff, fa, upd a1 R (nI (qc_k ρ)), upd a2 R v2, upd a3 R v3, upd a4 R (nI (qc_l ρ)), upd a5 R (nI (qc_r ρ)), a6, a7, a8, a9, a10, a11, a12, a13, a14, a15, a16, a17, a18)) :
    wpX_rule post (nI R, fs, fl, fc, fg, fe, fw, ff, fa, a1, a2, a3, a4, a5, a6, a7, a8, a9, a10, a11, a12, a13, a14, a15, a16, a17, a18) (nI (qc_k ρ)) (nI (qc_x ρ)) (nI (qc_y ρ)) (nI (ρ / 64 % 1024)) := by
  have hx : qc_x ρ < 4 := Nat.mod_lt _ (by decide)
  have hy : qc_y ρ < 4 := Nat.mod_lt _ (by decide)
  have hs : ρ / 64 % 1024 < 1024 := Nat.mod_lt _ (by decide)
  obtain ⟨s1, s2⟩ := qn_add 0 (by decide) _ hs
  have hl : ρ / 64 % 1024 % 32 = qc_l ρ := by unfold qc_l; omega
  have hr : ρ / 64 % 1024 / 32 = qc_r ρ := by unfold qc_r; omega
  rw [hl] at s1
  rw [hr] at s2
  have K134 : ∀ (v2 z : Int32), (qc_k ρ ≠ 2 → v2 = nI (qc_x ρ)) → (qc_k ρ ≠ 1 → z.toInt8.toInt32 = nI (qc_y ρ)) → wX_rule_134 post (nI (ρ / 64 % 1024)) z (nI R) (nI R) fs fl fc fg fe fw ff fa (upd a1 R (nI (qc_k ρ))) (upd a2 R v2) a3 a4 a5 a6 a7 a8 a9 a10 a11 a12 a13 a14 a15 a16 a17 a18 := by
    intro v2 z h2 h3
    unfold wX_rule_134
    rw [nI_clamp (show R < 2 ^ 31 by omega), s1, s2]
    exact ⟨pk_in R 5 hR, nm_e ⟨pk_in R 5 hR, nm_e ⟨pk_in R 5 hR, nm_e (nm_r (nI_1 R) (H v2 _ h2 h3))⟩⟩⟩
  have K114 : ∀ (z : Int32), (qc_k ρ ≠ 2 → z.toInt8.toInt32 = nI (qc_x ρ)) → ∀ x6 : Int32, (qc_k ρ ≠ 1 → ¬ x6 = 0) → wX_rule_114 post (nI (qc_y ρ)) (nI (ρ / 64 % 1024)) x6 z (nI R) (nI R) fs fl fc fg fe fw ff fa (upd a1 R (nI (qc_k ρ))) a2 a3 a4 a5 a6 a7 a8 a9 a10 a11 a12 a13 a14 a15 a16 a17 a18 := by
    intro z h2 x6 h6
    unfold wX_rule_114
    rw [nI_clamp (show R < 2 ^ 31 by omega)]
    exact ⟨pk_in R 5 hR, nm_e (br_c (fun e => K134 _ 0 h2 (fun h => absurd e (h6 h))) (fun _ => K134 _ _ h2 (fun _ => qn_b _ (by omega))))⟩
  have K59 : ∀ x5 x6 : Int32, (qc_k ρ ≠ 2 → ¬ x5 = 0) → (qc_k ρ ≠ 1 → ¬ x6 = 0) → wX_rule_59 post (nI (qc_k ρ)) (nI (qc_x ρ)) (nI (qc_y ρ)) (nI (ρ / 64 % 1024)) x5 x6 (nI R) fs fl fc fg fe fw ff fa a1 a2 a3 a4 a5 a6 a7 a8 a9 a10 a11 a12 a13 a14 a15 a16 a17 a18 := by
    intro x5 x6 h5 h6
    unfold wX_rule_59
    refine br_f (nI_pos (by omega)) (pk_le (ρ / 64 % 1024) 1023 (fun _ => pk_eq R 5 (fun z => absurd z (by omega)) (fun _ => ⟨pk_in R 5 hR, nm_r (e' := upd a1 R (nI (qc_k ρ))) (by rw [nI_clamp (by omega), qn_b _ (by omega)]) ?_⟩)) (fun z => absurd z (by omega)))
    exact br_c (fun e => K114 0 (fun h => absurd e (h5 h)) x6 h6) (fun _ => K114 _ (fun _ => qn_b _ (by omega)) x6 h6)
  have K46 : ∀ x5 x6 : Int32, (qc_k ρ ≠ 2 → ¬ x5 = 0) → (qc_k ρ ≠ 1 → ¬ x6 = 0) → wX_rule_46 post (nI (qc_k ρ)) (nI (qc_x ρ)) (nI (qc_y ρ)) (nI (ρ / 64 % 1024)) x5 x6 (nI R) fs fl fc fg fe fw ff fa a1 a2 a3 a4 a5 a6 a7 a8 a9 a10 a11 a12 a13 a14 a15 a16 a17 a18 := by
    intro x5 x6 h5 h6
    unfold wX_rule_46
    exact br_c (fun _ => K59 x5 x6 h5 h6) (fun _ => qw_badL hy (br_t rfl (K59 x5 x6 h5 h6)))
  have K22 : ∀ x5 x6 : Int32, (qc_k ρ ≠ 2 → ¬ x5 = 0) → (qc_k ρ ≠ 1 → ¬ x6 = 0) → wX_rule_22 post (nI (qc_k ρ)) (nI (qc_x ρ)) (nI (qc_y ρ)) (nI (ρ / 64 % 1024)) x5 x6 (nI R) fs fl fc fg fe fw ff fa a1 a2 a3 a4 a5 a6 a7 a8 a9 a10 a11 a12 a13 a14 a15 a16 a17 a18 := by
    intro x5 x6 h5 h6
    unfold wX_rule_22
    exact br_f (nI_pos (by omega)) (pk_lt 2 (qc_k ρ) (fun z => absurd z (by omega)) (fun _ => br_c (fun _ => K46 x5 x6 h5 h6) (fun _ => qw_badL hx (br_t rfl (K46 x5 x6 h5 h6)))))
  have K10 : ∀ x5 : Int32, (qc_k ρ ≠ 2 → ¬ x5 = 0) → wX_rule_10 post (nI (qc_k ρ)) (nI (qc_x ρ)) (nI (qc_y ρ)) (nI (ρ / 64 % 1024)) x5 (nI R) fs fl fc fg fe fw ff fa a1 a2 a3 a4 a5 a6 a7 a8 a9 a10 a11 a12 a13 a14 a15 a16 a17 a18 := by
    intro x5 h5
    unfold wX_rule_10
    exact pk_eq (qc_k ρ) 1 (fun z => K22 x5 0 h5 (fun h => absurd z h)) (fun z => K22 x5 1 h5 (fun _ => by decide))
  unfold wpX_rule
  exact pk_eq (qc_k ρ) 2 (fun z => K10 0 (fun h => absurd z h)) (fun z => K10 1 (fun _ => by decide))
theorem qw_add {post : Int32 → St2 → Prop} {fs fl fc fg fe fw ff fa : Int32} {a1 a2 a3 a4 a5 a6 a7 a8 a9 a10 a11 a12 a13 a15 a17 a18 : (Nat → Int32)} {a14 a16 : (Nat → Int64)} {R ρ : Nat} (hR : R < 5) (hk : qc_k ρ < 3) (hρ : ρ < 65536)
    (H : ∀ (a1' : (Nat → Int32)) (a2' : (Nat → Int32)) (a3' : (Nat → Int32)) (a4' : (Nat → Int32)) (a5' : (Nat → Int32)), (∀ r ρ, r < R → qc_Ru a1 a2 a3 a4 a5 r ρ → qc_Ru a1' a2' a3' a4' a5' r ρ) → qc_Ru a1' a2' a3' a4' a5' R ρ → post 1 (nI (R + 1), fs, fl, fc, fg, fe, fw, ff, fa, a1', a2', a3', a4', a5', a6, a7, a8, a9, a10, a11, a12, a13, a14, a15, a16, a17, a18)) : wpL_add post (nI R, fs, fl, fc, fg, fe, fw, ff, fa, a1, a2, a3, a4, a5, a6, a7, a8, a9, a10, a11, a12, a13, a14, a15, a16, a17, a18) (nI ρ) (nI (R + 1)) := by
  unfold wpL_add
  have e1 : nI ρ &&& 3 = nI (qc_k ρ) := pk_andN (by omega) 2 (by decide)
  have e2 : (nI ρ >>> ((2 : Int32) &&& 31)) &&& 3 = nI (qc_x ρ) := by rw [pk_shrN (by omega) _ 2 (by decide)]; exact pk_andN (by omega) 2 (by decide)
  have e3 : (nI ρ >>> ((4 : Int32) &&& 31)) &&& 3 = nI (qc_y ρ) := by rw [pk_shrN (by omega) _ 4 (by decide)]; exact pk_andN (by omega) 2 (by decide)
  have e4 : (nI ρ >>> ((6 : Int32) &&& 31)) &&& 1023 = nI (ρ / 64 % 1024) := by rw [pk_shrN (by omega) _ 6 (by decide)]; exact pk_andN (by omega) 10 (by decide)
  refine nm_r e1 (nm_r e2 (nm_r e3 (nm_r e4 (qw_rule hR hk (fun v2 v3 h2 h3 => br_t rfl (H _ _ _ _ _ (fun r ρ' hr h => qc_Ru_un hr h) ⟨hk, pk_us, ?_, ?_, pk_us, pk_us⟩))))))
  · intro h
    rw [pk_us]
    exact h2 h
  · intro h
    rw [pk_us]
    exact h3 h
end
section
/-! The law's own size, at and made. -/
theorem qw_size {post : Int32 → Prop} {u : St0} {p : List Nat} (hp : ∀ v, v ∈ p → v < 4) (hl : p.length ≤ 12) (H : post (nI p.length)) : wpL_size post u (nI (qc_enc p)) := by
  unfold wpL_size
  have this : ∃ n, wL_size_4 post n (nI 0) (nI (qc_enc (p.take (p.length - 0)))) := by
    refine pk_loop (σ := Unit) (fun n i _ => wL_size_4 post n (nI i) (nI (qc_enc (p.take (p.length - i))))) (fun _ _ => True) p.length 0 () (Nat.zero_le _) trivial (fun n _ _ => ?_) (fun n i _ hi _ hw => ?_)
    · rw [Nat.sub_self, List.take_zero, qc_enc_0]
      exact pk_le 1 1 (fun _ => H) (fun z => absurd z (by omega))
    · obtain ⟨v, f1, f2, f3, f4⟩ := qc_A_get (c := p) (i := p.length - (i + 1)) (by omega)
      rw [show p.length - (i + 1) + 1 = p.length - i by omega] at f4
      have hv := hp v f2
      have hb := qc_enc_bound (p := p.take (p.length - (i + 1))) (fun w hw => hp w (List.mem_of_mem_take hw)) (by rw [List.length_take]; omega)
      have h1 := qc_enc_pos (p.take (p.length - (i + 1)))
      rw [f4, qc_enc_s]
      refine pk_le (4 * qc_enc (p.take (p.length - (i + 1))) + v) 1 (fun z => absurd z (by omega)) (fun _ => nm_r (nI_1 i) (nm_r (e' := nI (qc_enc (p.take (p.length - (i + 1))))) ?_ (hw () trivial)))
      rw [qn_sh2 (by omega)]
      exact congrArg nI (by omega)
  rw [Nat.sub_zero, List.take_length] at this
  exact this
theorem qc_getD_lt {p : List Nat} (hp : ∀ v, v ∈ p → v < 4) (i : Nat) : p.getD i 4 ≤ 4 := by
  rw [List.getD_eq_getElem?_getD]
  rcases Nat.lt_or_ge i p.length with z | z
  · rw [List.getElem?_eq_getElem z]
    exact Nat.le_of_lt (hp _ (List.getElem_mem z))
  · rw [List.getElem?_eq_none z]
    exact Nat.le_refl 4
theorem qc_getD_ge {p : List Nat} {i : Nat} (h : p.length ≤ i) : p.getD i 4 = 4 := by
  rw [List.getD_eq_getElem?_getD, List.getElem?_eq_none h]
  rfl
theorem qw_at {post : Int32 → Prop} {u : St0} {p : List Nat} {i : Nat} (hp : ∀ v, v ∈ p → v < 4) (hl : p.length ≤ 12) (hi : i < 100) (H : post (nI (p.getD i 4))) : wpL_at post u (nI (qc_enc p)) (nI p.length) (nI i) := by
  unfold wpL_at
  refine br_f (nI_pos (by omega)) (pk_lt i p.length (fun z => ?_) (fun z => ?_))
  · have e : (nI p.length - 1) - nI i = nI (p.length - 1 - i) := by
      have e1 : nI p.length - 1 = nI (p.length - 1) := pk_sub (b := 1) (by omega)
      rw [e1, pk_sub (by omega)]
    have hb := qc_enc_bound hp hl
    rw [e, qn_dig (by omega) (by omega), qc_enc_at hp z]
    exact H
  · rw [qc_getD_ge z] at H
    exact H
/-- the letter ahead of place i -/
def qc_bf (p : List Nat) (i : Nat) : Nat := if i = 0 then 4 else p.getD (i - 1) 4
theorem qc_bf_le {p : List Nat} (hp : ∀ v, v ∈ p → v < 4) (i : Nat) : qc_bf p i ≤ 4 := by
  unfold qc_bf
  split
  · exact Nat.le_refl 4
  · exact qc_getD_lt hp _
theorem qw_atm {post : Int32 → Prop} {u : St0} {p : List Nat} {i : Nat} (hp : ∀ v, v ∈ p → v < 4) (hl : p.length ≤ 12) (hi : i < 100) (H : post (nI (qc_bf p i))) : wpL_at post u (nI (qc_enc p)) (nI p.length) (nI i - 1) := by
  cases i with
  | zero =>
    unfold wpL_at
    exact br_t qn_neg1 H
  | succ i =>
    rw [nI_pred]
    exact qw_at hp hl (by omega) H
theorem qc_tk1 {E : List Nat} {v : Nat} (h : E.length < 12) : qc_enc ((E ++ [v]).take 12) = 4 * qc_enc (E.take 12) + v := by
  rw [List.take_of_length_le (by rw [List.length_append]; exact h), List.take_of_length_le (by omega), qc_enc_s]
theorem qc_tk2 {E e : List Nat} (h : 12 ≤ E.length) : (E ++ e).take 12 = E.take 12 := by
  rw [List.take_append, show 12 - E.length = 0 by omega, List.take_zero, List.append_nil]
theorem qw_206 {post : Int32 → Prop} {J : Int32 → Int32 → Int32 → Prop} {x0 x2 x3 x4 x6 x7 : Int32} {E : List Nat} {y i x : Nat} {f : Bool} (hE : E.length < 100)
    (H : J (nI (qc_enc ((E ++ [if f = true then y else x]).take 12))) (nI (E.length + 1)) (nI (i + 1))) : wL_made_206 post J x0 x2 x3 x4 (nI y) x6 x7 (nI (qc_enc (E.take 12))) (nI E.length) (nI i) (nI x) (qn_w f) := by
  unfold wL_made_206
  refine pk_le 12 E.length (fun z => nm_r (nI_1 _) (nm_r (nI_1 i) ?_)) (fun z => qw_brb (fun hf => nm_r (qn_4m _ _) (nm_r (nI_1 _) (nm_r (nI_1 i) ?_))) (fun hf => nm_r (qn_4m _ _) (nm_r (nI_1 _) (nm_r (nI_1 i) ?_))))
  · rw [qc_tk2 z] at H
    exact H
  · rw [qc_tk1 z, hf] at H
    exact H
  · rw [qc_tk1 z, hf] at H
    exact H
theorem qw_191 {post : Int32 → Prop} {J : Int32 → Int32 → Int32 → Prop} {x0 x2 x4 x6 x7 : Int32} {E : List Nat} {k y i x : Nat} {f : Bool} (hE : E.length < 100) (hk : k < 3) (hx : x ≤ 4)
    (H : J (nI (qc_enc ((E ++ if x < 4 then (if f = true then (if k = 0 then [y] else []) else [x]) else []).take 12))) (nI (E ++ if x < 4 then (if f = true then (if k = 0 then [y] else []) else [x]) else []).length) (nI (i + 1))) :
    wL_made_191 post J x0 x2 (nI k) x4 (nI y) x6 x7 (nI (qc_enc (E.take 12))) (nI E.length) (nI i) (nI x) (qn_w f) := by
  unfold wL_made_191
  refine pk_le 4 x (fun z => nm_r (nI_1 i) ?_) (fun z => qw_brb (fun hf => qw_206 hE ?_) (fun hf => pk_eq k 0 (fun zk => qw_206 hE ?_) (fun zk => nm_r (nI_1 i) ?_)))
  · rw [if_neg (by omega), List.append_nil] at H
    exact H
  · rw [if_pos z, hf, if_neg (by decide), List.length_append] at H
    rw [hf, if_neg (by decide)]
    exact H
  · rw [if_pos z, hf, if_pos rfl, if_pos zk, List.length_append] at H
    rw [hf, if_pos rfl]
    exact H
  · rw [if_pos z, hf, if_pos rfl, if_neg zk, List.append_nil] at H
    exact H
theorem qw_160 {post : Int32 → Prop} {J : Int32 → Int32 → Int32 → Prop} {x0 x2 x4 x6 x7 : Int32} {E : List Nat} {k y i x : Nat} {c f : Bool} (hE : E.length < 90) (hk : k < 3) (hx : x ≤ 4)
    (H : J (nI (qc_enc (((E ++ if c = true then [y] else []) ++ if x < 4 then (if f = true then (if k = 0 then [y] else []) else [x]) else []).take 12))) (nI ((E ++ if c = true then [y] else []) ++ if x < 4 then (if f = true then (if k = 0 then [y] else []) else [x]) else []).length) (nI (i + 1))) :
    wL_made_160 post J x0 x2 (nI k) x4 (nI y) x6 x7 (nI (qc_enc (E.take 12))) (nI E.length) (nI i) (nI x) (qn_w c) (qn_w f) := by
  unfold wL_made_160 wL_made_183
  cases c with
  | false =>
    rw [if_neg (by decide), List.append_nil] at H
    exact br_t rfl (br_t rfl (qw_191 (by omega) hk hx H))
  | true =>
    rw [if_pos rfl] at H
    have hn : ¬ qn_w true = 0 := by decide
    have e1 : E.length + 1 = (E ++ [y]).length := by rw [List.length_append]; rfl
    refine br_f hn (pk_le 12 E.length (fun z => br_f hn (nm_r (nI_1 _) ?_)) (fun z => nm_r (qn_4m _ _) (br_f hn (nm_r (nI_1 _) ?_))))
    · rw [e1, ← qc_tk2 (e := [y]) z]
      exact qw_191 (by rw [List.length_append]; show E.length + 1 < 100; omega) hk hx H
    · rw [e1, ← qc_tk1 z]
      exact qw_191 (by rw [List.length_append]; show E.length + 1 < 100; omega) hk hx H
theorem qc_abf {ρ b y : Nat} {c : Bool} (h : (qc_al (qc_l ρ) b && qc_al (qc_r ρ) y) = c) : qc_ab ρ b y = c := h
theorem qw_119 {post : Int32 → Prop} {J : Int32 → Int32 → Int32 → Prop} {x0 x2 : Int32} {E : List Nat} {ρ b i x y : Nat} {c : Bool} (hE : E.length < 90) (hk : qc_k ρ < 3) (hx : x ≤ 4) (hb : b ≤ 4) (hy : y ≤ 4) (hc : (qc_k ρ = 2 ∧ qc_ab ρ b x = true) ↔ c = true)
    (H : J (nI (qc_enc ((E ++ qc_eL ρ b x y).take 12))) (nI (E ++ qc_eL ρ b x y).length) (nI (i + 1))) :
    wL_made_119 post J x0 x2 (nI (qc_k ρ)) (nI (qc_x ρ)) (nI (qc_y ρ)) (nI (qc_l ρ)) (nI (qc_r ρ)) (nI (qc_enc (E.take 12))) (nI E.length) (nI i) (nI b) (nI x) (nI y) (qn_w c) := by
  have hl32 : qc_l ρ < 32 := Nat.mod_lt _ (by decide)
  have hr32 : qc_r ρ < 32 := Nat.mod_lt _ (by decide)
  have hx4 : qc_x ρ < 4 := Nat.mod_lt _ (by decide)
  have K : ∀ f : Bool, ((qc_k ρ < 2 ∧ x = qc_x ρ ∧ qc_ab ρ b y = true) ↔ f = true) → wL_made_160 post J x0 x2 (nI (qc_k ρ)) (nI (qc_x ρ)) (nI (qc_y ρ)) (nI (qc_l ρ)) (nI (qc_r ρ)) (nI (qc_enc (E.take 12))) (nI E.length) (nI i) (nI x) (qn_w c) (qn_w f) := by
    intro f hf
    have e : (E ++ if c = true then [qc_y ρ] else []) ++ (if x < 4 then (if f = true then (if qc_k ρ = 0 then [qc_y ρ] else []) else [x]) else []) = E ++ qc_eL ρ b x y := by
      rw [List.append_assoc]
      unfold qc_eL
      simp only [hc, hf]
    refine qw_160 hE hk hx ?_
    rw [e]
    exact H
  have K0 : ¬ (qc_k ρ < 2 ∧ x = qc_x ρ ∧ qc_ab ρ b y = true) → wL_made_159 post J x0 x2 (nI (qc_k ρ)) (nI (qc_x ρ)) (nI (qc_y ρ)) (nI (qc_l ρ)) (nI (qc_r ρ)) (nI (qc_enc (E.take 12))) (nI E.length) (nI i) (nI x) (qn_w c) := by
    intro h
    unfold wL_made_159
    exact K false ⟨fun z => absurd z h, fun z => absurd z (by decide)⟩
  have al1 := qn_al (qc_l ρ) hl32 b (by omega)
  have al2 := qn_al (qc_r ρ) hr32 y (by omega)
  unfold wL_made_119
  refine pk_le 2 (qc_k ρ) (fun z => K0 (fun t => by omega)) (fun z => pk_eq x (qc_x ρ) (fun zx => ?_) (fun zx => K0 (fun t => zx t.2.1)))
  refine br_c (fun g1 => br_c (fun g2 => K true ⟨fun _ => rfl, fun _ => ⟨z, zx, ?_⟩⟩) (fun g2 => K0 (fun t => ?_))) (fun g1 => K0 (fun t => ?_))
  · unfold qc_ab
    rw [al1.mp g1, al2.mp g2]
    rfl
  · have := t.2.2
    unfold qc_ab at this
    rw [Bool.and_eq_true] at this
    exact g2 (al2.mpr this.2)
  · have := t.2.2
    unfold qc_ab at this
    rw [Bool.and_eq_true] at this
    exact g1 (al1.mpr this.1)
theorem qc_headD (p : List Nat) (i : Nat) : (p.drop i).headD 4 = p.getD i 4 := by
  rw [List.getD_eq_getElem?_getD]
  rcases Nat.lt_or_ge i p.length with z | z
  · rw [List.drop_eq_getElem_cons z, List.getElem?_eq_getElem z]
    rfl
  · rw [List.drop_of_length_le z, List.getElem?_eq_none z]
    rfl
theorem qw_made {post : Int32 → Prop} {u : St0} {ρ : Nat} {p : List Nat} (hk : qc_k ρ < 3) (hρ : ρ < 65536) (hp : ∀ v, v ∈ p → v < 4) (hl : p.length ≤ 12) (H : post (nI (qc_enc (qc_B ρ p)))) : wpL_made post u (nI (qc_enc p)) (nI ρ) := by
  unfold wpL_made
  have e1 : nI ρ &&& 3 = nI (qc_k ρ) := pk_andN (by omega) 2 (by decide)
  have e2 : (nI ρ >>> ((2 : Int32) &&& 31)) &&& 3 = nI (qc_x ρ) := by rw [pk_shrN (by omega) _ 2 (by decide)]; exact pk_andN (by omega) 2 (by decide)
  have e3 : (nI ρ >>> ((4 : Int32) &&& 31)) &&& 3 = nI (qc_y ρ) := by rw [pk_shrN (by omega) _ 4 (by decide)]; exact pk_andN (by omega) 2 (by decide)
  have e4 : (nI ρ >>> ((6 : Int32) &&& 31)) &&& 31 = nI (qc_l ρ) := by rw [pk_shrN (by omega) _ 6 (by decide)]; exact pk_andN (by omega) 5 (by decide)
  have e5 : (nI ρ >>> ((11 : Int32) &&& 31)) &&& 31 = nI (qc_r ρ) := by rw [pk_shrN (by omega) _ 11 (by decide)]; exact pk_andN (by omega) 5 (by decide)
  have hl32 : qc_l ρ < 32 := Nat.mod_lt _ (by decide)
  have hr32 : qc_r ρ < 32 := Nat.mod_lt _ (by decide)
  refine qw_size hp hl (nm_r e1 (nm_r e2 (nm_r e3 (nm_r e4 (nm_r e5 ?_)))))
  rw [qc_B_LR hk hp] at H
  refine pk_loop (σ := Int32 × Int32) (fun n i s => wL_made_50 post (nI (qc_enc p)) (nI p.length) (nI (qc_k ρ)) (nI (qc_x ρ)) (nI (qc_y ρ)) (nI (qc_l ρ)) (nI (qc_r ρ)) n s.1 s.2 (nI i))
    (fun i s => ∃ E : List Nat, s.1 = nI (qc_enc (E.take 12)) ∧ s.2 = nI E.length ∧ E.length ≤ 2 * i ∧ E ++ (if i ≤ p.length then qc_LR ρ (qc_bf p i) (p.drop i) else []) = qc_LR ρ 4 p)
    (p.length + 1) 0 (1, 0) (Nat.zero_le _) ⟨[], rfl, rfl, Nat.le_refl 0, by rw [if_pos (Nat.zero_le _)]; rfl⟩ (fun n s h => ?_) (fun n i s hi h hw => ?_)
  · obtain ⟨x8, x9⟩ := s
    obtain ⟨E, h1, h2, h3, h4⟩ := h
    dsimp only at h1 h2 ⊢
    subst h1 h2
    rw [if_neg (by omega), List.append_nil] at h4
    rw [h4]
    exact pk_lt p.length (p.length + 1) (fun _ => H) (fun z => absurd z (by omega))
  · obtain ⟨x8, x9⟩ := s
    obtain ⟨E, h1, h2, h3, h4⟩ := h
    dsimp only at h1 h2 ⊢
    subst h1 h2
    have hb := qc_bf_le hp i
    have hx := qc_getD_lt hp i
    have hy := qc_getD_lt hp (i + 1)
    refine pk_lt p.length i (fun z => absurd z (by omega)) (fun _ => qw_atm hp hl (by omega) (qw_at hp hl (by omega) ?_))
    rw [nI_1]
    refine qw_at hp hl (by omega) ?_
    have fin : (∀ c : Bool, ((qc_k ρ = 2 ∧ qc_ab ρ (qc_bf p i) (p.getD i 4) = true) ↔ c = true) → wL_made_119 post (wL_made_50 post (nI (qc_enc p)) (nI p.length) (nI (qc_k ρ)) (nI (qc_x ρ)) (nI (qc_y ρ)) (nI (qc_l ρ)) (nI (qc_r ρ)) n) (nI (qc_enc p)) (nI p.length) (nI (qc_k ρ)) (nI (qc_x ρ)) (nI (qc_y ρ)) (nI (qc_l ρ)) (nI (qc_r ρ)) (nI (qc_enc (E.take 12))) (nI E.length) (nI i) (nI (qc_bf p i)) (nI (p.getD i 4)) (nI (p.getD (i + 1) 4)) (qn_w c)) := by
      intro c hc
      refine qw_119 (by omega) hk hx hb hy hc ?_
      refine hw (_, _) ⟨E ++ qc_eL ρ (qc_bf p i) (p.getD i 4) (p.getD (i + 1) 4), rfl, rfl, ?_, ?_⟩
      · rw [List.length_append]
        have := qc_eL_len ρ (qc_bf p i) (p.getD i 4) (p.getD (i + 1) 4)
        omega
      · rw [← h4, if_pos (show i ≤ p.length by omega), List.append_assoc]
        congr 1
        rcases Nat.lt_or_ge i p.length with z | z
        · rw [if_pos (by omega)]
          have hg : p.getD i 4 = p[i] := by
            rw [List.getD_eq_getElem?_getD, List.getElem?_eq_getElem z]
            rfl
          have hbf : qc_bf p (i + 1) = p[i] := by
            unfold qc_bf
            rw [if_neg (by omega)]
            exact hg
          rw [List.drop_eq_getElem_cons z, qc_LR_s, qc_headD, hg, hbf]
        · rw [if_neg (by omega), List.append_nil, List.drop_of_length_le z, qc_LR_0, qc_getD_ge z, qc_getD_ge (by omega)]
    have fin0 : ¬ (qc_k ρ = 2 ∧ qc_ab ρ (qc_bf p i) (p.getD i 4) = true) → wL_made_118 post (wL_made_50 post (nI (qc_enc p)) (nI p.length) (nI (qc_k ρ)) (nI (qc_x ρ)) (nI (qc_y ρ)) (nI (qc_l ρ)) (nI (qc_r ρ)) n) (nI (qc_enc p)) (nI p.length) (nI (qc_k ρ)) (nI (qc_x ρ)) (nI (qc_y ρ)) (nI (qc_l ρ)) (nI (qc_r ρ)) (nI (qc_enc (E.take 12))) (nI E.length) (nI i) (nI (qc_bf p i)) (nI (p.getD i 4)) (nI (p.getD (i + 1) 4)) := by
      intro h
      unfold wL_made_118
      exact fin false ⟨fun z => absurd z h, fun z => absurd z (by decide)⟩
    have al1 := qn_al (qc_l ρ) hl32 (qc_bf p i) (by omega)
    have al2 := qn_al (qc_r ρ) hr32 (p.getD i 4) (by omega)
    refine pk_eq (qc_k ρ) 2 (fun z => br_c (fun g1 => br_c (fun g2 => fin true ⟨fun _ => rfl, fun _ => ⟨z, ?_⟩⟩) (fun g2 => fin0 (fun t => ?_))) (fun g1 => fin0 (fun t => ?_))) (fun z => fin0 (fun t => z t.1))
    · unfold qc_ab
      rw [al1.mp g1, al2.mp g2]
      rfl
    · have := t.2
      unfold qc_ab at this
      rw [Bool.and_eq_true] at this
      exact g2 (al2.mpr this.2)
    · have := t.2
      unfold qc_ab at this
      rw [Bool.and_eq_true] at this
      exact g1 (al1.mpr this.1)
end
section
/-! The law's loop over all words of n letters, and what comes behind it. -/
def qv_ok (o t h R : Nat) : Prop := (o < 65536 ∧ qc_k o < 3) ∧ (t < 65536 ∧ qc_k t < 3) ∧ (h < 65536 ∧ qc_k h < 3) ∧ 1 ≤ R ∧ R ≤ 3
def qv_r (o t h : Nat) : Nat → Nat := fun s => if s = 0 then o else if s = 1 then t else h
/-- made, if there are more than c rules -/
def qv_cm (R c ρ : Nat) (q : List Nat) : List Nat := if R ≤ c then q else qc_B ρ q
theorem qv_cm_lt {R c ρ : Nat} {q : List Nat} (hq : ∀ v, v ∈ q → v < 4) : ∀ v, v ∈ qv_cm R c ρ q → v < 4 := by
  unfold qv_cm
  split
  · exact hq
  · exact qc_B_lt hq
theorem qv_cm_len {R c ρ : Nat} {q : List Nat} (hq : ∀ v, v ∈ q → v < 4) (hl : q.length ≤ 12) : (qv_cm R c ρ q).length ≤ 12 := by
  unfold qv_cm
  split
  · exact hl
  · exact qc_B_len hq
theorem qv_R {o t h R : Nat} (ok : qv_ok o t h R) (p : List Nat) : qc_R (qv_r o t h) R p = qv_cm R 2 h (qv_cm R 1 t (qc_B o p)) := by
  obtain ⟨_, _, _, h1, h3⟩ := ok
  rcases (by omega : R = 1 ∨ R = 2 ∨ R = 3) with e | e | e
  · subst e; rfl
  · subst e; rfl
  · subst e; rfl
theorem qv_Ri {o t h R : Nat} (ok : qv_ok o t h (R + 1)) (p : List Nat) : qc_R (fun s => qv_r o t h (s + 1)) R p = qv_cm (R + 1) 2 h (qv_cm (R + 1) 1 t p) := by
  obtain ⟨_, _, _, h1, h3⟩ := ok
  rcases (by omega : R = 0 ∨ R = 1 ∨ R = 2) with e | e | e
  · subst e; rfl
  · subst e; rfl
  · subst e; rfl
theorem qv_Rc {o t h R : Nat} (ok : qv_ok o t h (R + 2)) (p : List Nat) : qc_R (qc_sw (qv_r o t h)) (R + 2) p = qv_cm (R + 2) 2 h (qc_B o (qv_cm (R + 2) 1 t p)) := by
  obtain ⟨_, _, _, h1, h3⟩ := ok
  rcases (by omega : R = 0 ∨ R = 1) with e | e
  · subst e; rfl
  · subst e; rfl
theorem qv_opt {A : Int32 → Prop} {R c ρ : Nat} {q : List Nat} (hR : R ≤ 3) (hc : c ≤ 3) (hk : qc_k ρ < 3) (hρ : ρ < 65536) (hq : ∀ v, v ∈ q → v < 4) (hl : q.length ≤ 12) (H : A (nI (qc_enc (qv_cm R c ρ q)))) :
    (nI R ≤ nI c → A (nI (qc_enc q))) ∧ (¬ nI R ≤ nI c → wpL_made (fun r => A r) () (nI (qc_enc q)) (nI ρ)) := by
  refine pk_le R c (fun z => ?_) (fun z => ?_)
  · unfold qv_cm at H
    rw [if_pos z] at H
    exact H
  · unfold qv_cm at H
    rw [if_neg (by omega)] at H
    exact qw_made hk hρ hq hl H
theorem qv_678 {post : Int32 → St0 → Prop} {mc ms kc ks : Nat} {fl fc fg fe fw ff fa : Int32} {a1 a2 a3 a4 a5 a6 a7 a8 a9 a10 a11 a12 a13 a15 a17 a18 : (Nat → Int32)} {a14 a16 : (Nat → Int64)} {R n : Nat} {ρ : Nat → Nat} {W : List Nat} {z0 z1 : Int32} (hR : qc_Rs a1 a2 a3 a4 a5 ρ R) (hW : qc_Wd a6 W) (hn : n ≤ 4) (hz : z1 = z0) (H : post 1 ()) :
    wL_lawOf_678 post mc ms (nI (qc_enc (qc_R ρ R W))) (nI (qc_R ρ R W).length) (nI n) z0 z1 kc ks (nI R) (nI W.length) fl fc fg fe fw ff fa a1 a2 a3 a4 a5 a6 a7 a8 a9 a10 a11 a12 a13 a14 a15 a16 a17 a18 := by
  unfold wL_lawOf_678
  have h5 := qc_p5 (show n ≤ 5 by omega)
  refine br_t hz (qw_images hR hn hW (fun c fl' fc' fg' fe' fw' ff' fa' a7' a8' a9' a10' a11' a12' a13' a14' a15' a16' a17' a18' h1 h2 => pk_lt c 1 (fun z => absurd z (by omega)) (fun _ => ?_)))
  refine qw_images hR hn hW (fun c' fl'' fc'' fg'' fe'' fw'' ff'' fa'' a7'' a8'' a9'' a10'' a11'' a12'' a13'' a14'' a15'' a16'' a17'' a18'' g1 g2 => pk_lt (4 ^ n) c' (fun z => absurd z (by omega)) (fun _ => ?_) (hx := qn_p1 n (by omega)))
  refine qw_apply hR hW (fun a6' fl''' fc''' fg''' fe''' fw''' ff''' fa''' a7''' a8''' a9''' a10''' a11''' a12''' a13''' a14''' a15''' a16''' a17''' a18''' h6 => br_t rfl ?_)
  have hW' : qc_Wd a6' (qc_R ρ R W) := ⟨h6, qc_R_len R hW.2.2 hW.2.1, qc_R_lt R hW.2.2⟩
  exact qw_after (k := 0) hR (Nat.zero_le R) hW' (fun fl'''' fc'''' fg'''' fe'''' fw'''' ff'''' fa'''' a7'''' a8'''' a9'''' a10'''' a11'''' a12'''' a13'''' a14'''' a15'''' a16'''' a17'''' a18'''' => br_t rfl H)
theorem qv_588 {post : Int32 → St0 → Prop} {mc ms kc ks : Nat} {J : Int32 → Int32 → Int32 → Int32 → Int32 → Int32 → Int32 → Int32 → Int32 → Int32 → Int32 → Int32 → Int32 → Int32 → (Nat → Int32) → (Nat → Int32) → (Nat → Int32) → (Nat → Int32) → (Nat → Int32) → (Nat → Int32) → (Nat → Int32) → (Nat → Int32) → (Nat → Int32) → (Nat → Int32) → (Nat → Int32) → (Nat → Int32) → (Nat → Int32) → (Nat → Int64) → (Nat → Int32) → (Nat → Int64) → (Nat → Int32) → (Nat → Int32) → Prop} {fr fs fl fc fg fe fw ff fa : Int32} {a1 a2 a3 a4 a5 a6 a7 a8 a9 a10 a11 a12 a13 a15 a17 a18 : (Nat → Int32)} {a14 a16 : (Nat → Int64)} {x7 x9 x10 x11 x12 x15 x16 x17 x18 x19 x21 : Int32} {w : Nat} {b : Bool} {X T : List Nat} (hX : ∀ v, v ∈ X → v < 4) (hXl : X.length ≤ 12) (hT : ∀ v, v ∈ T → v < 4) (hTl : T.length ≤ 12)
    (H : J x17 x18 x19 (qn_w (b && decide (X = T))) (nI (w + 1)) fr fs fl fc fg fe fw ff fa a1 a2 a3 a4 a5 a6 a7 a8 a9 a10 a11 a12 a13 a14 a15 a16 a17 a18) : wL_lawOf_588 post mc ms J x7 x9 x10 x11 x12 x15 x16 x17 x18 x19 (qn_w b) x21 (nI w) (nI (qc_enc X)) (nI (qc_enc T)) kc ks fr fs fl fc fg fe fw ff fa a1 a2 a3 a4 a5 a6 a7 a8 a9 a10 a11 a12 a13 a14 a15 a16 a17 a18 := by
  unfold wL_lawOf_588
  have b1 := qc_enc_bound hX hXl
  have b2 := qc_enc_bound hT hTl
  refine pk_eq (qc_enc X) (qc_enc T) (fun z => nm_r (nI_1 w) ?_) (fun z => nm_r (nI_1 w) ?_)
  · rw [decide_eq_true (qc_enc_inj hX hT z), Bool.and_true] at H
    exact H
  · rw [decide_eq_false (fun y => z (by rw [y])), Bool.and_false] at H
    exact H
theorem qv_578 {post : Int32 → St0 → Prop} {mc ms kc ks : Nat} {J : Int32 → Int32 → Int32 → Int32 → Int32 → Int32 → Int32 → Int32 → Int32 → Int32 → Int32 → Int32 → Int32 → Int32 → (Nat → Int32) → (Nat → Int32) → (Nat → Int32) → (Nat → Int32) → (Nat → Int32) → (Nat → Int32) → (Nat → Int32) → (Nat → Int32) → (Nat → Int32) → (Nat → Int32) → (Nat → Int32) → (Nat → Int32) → (Nat → Int32) → (Nat → Int64) → (Nat → Int32) → (Nat → Int64) → (Nat → Int32) → (Nat → Int32) → Prop} {fr fs fl fc fg fe fw ff fa : Int32} {a1 a2 a3 a4 a5 a6 a7 a8 a9 a10 a11 a12 a13 a15 a17 a18 : (Nat → Int32)} {a14 a16 : (Nat → Int64)} {x7 x9 x10 x11 x12 x15 x16 x17 x18 x21 : Int32} {w : Nat} {b a : Bool} {X T O : List Nat} (hX : ∀ v, v ∈ X → v < 4) (hXl : X.length ≤ 12) (hT : ∀ v, v ∈ T → v < 4) (hTl : T.length ≤ 12) (hO : ∀ v, v ∈ O → v < 4) (hOl : O.length ≤ 12)
    (H : J x17 x18 (qn_w (a && decide (X = O))) (qn_w (b && decide (X = T))) (nI (w + 1)) fr fs fl fc fg fe fw ff fa a1 a2 a3 a4 a5 a6 a7 a8 a9 a10 a11 a12 a13 a14 a15 a16 a17 a18) : wL_lawOf_578 post mc ms J x7 x9 x10 x11 x12 x15 x16 x17 x18 (qn_w a) (qn_w b) x21 (nI w) (nI (qc_enc X)) (nI (qc_enc O)) (nI (qc_enc T)) kc ks fr fs fl fc fg fe fw ff fa a1 a2 a3 a4 a5 a6 a7 a8 a9 a10 a11 a12 a13 a14 a15 a16 a17 a18 := by
  unfold wL_lawOf_578
  have b1 := qc_enc_bound hX hXl
  have b2 := qc_enc_bound hO hOl
  refine pk_eq (qc_enc X) (qc_enc O) (fun z => qv_588 hX hXl hT hTl ?_) (fun z => qv_588 hX hXl hT hTl ?_)
  · rw [decide_eq_true (qc_enc_inj hX hO z), Bool.and_true] at H
    exact H
  · rw [decide_eq_false (p := X = O) (fun y => z (by rw [y])), Bool.and_false] at H
    exact H
theorem qv_533 {post : Int32 → St0 → Prop} {mc ms kc ks : Nat} {J : Int32 → Int32 → Int32 → Int32 → Int32 → Int32 → Int32 → Int32 → Int32 → Int32 → Int32 → Int32 → Int32 → Int32 → (Nat → Int32) → (Nat → Int32) → (Nat → Int32) → (Nat → Int32) → (Nat → Int32) → (Nat → Int32) → (Nat → Int32) → (Nat → Int32) → (Nat → Int32) → (Nat → Int32) → (Nat → Int32) → (Nat → Int32) → (Nat → Int32) → (Nat → Int64) → (Nat → Int32) → (Nat → Int64) → (Nat → Int32) → (Nat → Int32) → Prop} {fl fc fg fe fw ff fa : Int32} {a1 a2 a3 a4 a5 a6 a7 a8 a9 a10 a11 a12 a13 a15 a17 a18 : (Nat → Int32)} {a14 a16 : (Nat → Int64)} {x9 x10 x11 x12 x15 x16 : Int32} {R n w : Nat} {ρ : Nat → Nat} {b a : Bool} {W T O : List Nat} (hR : qc_Rs a1 a2 a3 a4 a5 ρ R) (hW : qc_Wd a6 W) (hn : n ≤ 4) (hw : w < 4 ^ n) (hT : ∀ v, v ∈ T → v < 4) (hTl : T.length ≤ 12) (hO : ∀ v, v ∈ O → v < 4) (hOl : O.length ≤ 12)
    (H : ∀ (fl' : Int32) (fc' : Int32) (fg' : Int32) (fe' : Int32) (fw' : Int32) (ff' : Int32) (fa' : Int32) (a7' : (Nat → Int32)) (a8' : (Nat → Int32)) (a9' : (Nat → Int32)) (a10' : (Nat → Int32)) (a11' : (Nat → Int32)) (a12' : (Nat → Int32)) (a13' : (Nat → Int32)) (a14' : (Nat → Int64)) (a15' : (Nat → Int32)) (a16' : (Nat → Int64)) (a17' : (Nat → Int32)) (a18' : (Nat → Int32)), J (nI (qc_ct (qc_f ρ R W 0 [] n) (w + 1))) (nI (qc_ct (fun w => decide (qc_R ρ R (qc_dg n w) = qc_dg n w)) (w + 1))) (qn_w (a && decide (qc_R ρ R (qc_dg n w) = O))) (qn_w (b && decide (qc_R ρ R (qc_dg n w) = T))) (nI (4 ^ n + w + 1)) (nI R) (nI W.length) fl' fc' fg' fe' fw' ff' fa' a1 a2 a3 a4 a5 a6 a7' a8' a9' a10' a11' a12' a13' a14' a15' a16' a17' a18') :
    wL_lawOf_533 post mc ms J (nI (qc_enc W)) x9 x10 x11 x12 x15 x16 (nI (qc_ct (qc_f ρ R W 0 [] n) w)) (nI (qc_ct (fun w => decide (qc_R ρ R (qc_dg n w) = qc_dg n w)) w)) (qn_w a) (qn_w b) (nI n) (nI (4 ^ n + w)) (nI (qc_enc (qc_R ρ R (qc_dg n w)))) (nI (qc_enc O)) (nI (qc_enc T)) kc ks (nI R) (nI W.length) fl fc fg fe fw ff fa a1 a2 a3 a4 a5 a6 a7 a8 a9 a10 a11 a12 a13 a14 a15 a16 a17 a18 := by
  have h5 := qc_p5 (show n ≤ 5 by omega)
  have hX := qc_R_lt (ρ := ρ) R (qc_dg_lt n w)
  have hXl := qc_R_len (ρ := ρ) R (qc_dg_lt n w) (by rw [qc_dg_len]; omega)
  have b1 := qc_enc_bound hX hXl
  have b2 := qc_enc_bound hW.2.2 hW.2.1
  have he := qc_enc_dg n w hw
  have K568 : ∀ (fl' : Int32) (fc' : Int32) (fg' : Int32) (fe' : Int32) (fw' : Int32) (ff' : Int32) (fa' : Int32) (a7' : (Nat → Int32)) (a8' : (Nat → Int32)) (a9' : (Nat → Int32)) (a10' : (Nat → Int32)) (a11' : (Nat → Int32)) (a12' : (Nat → Int32)) (a13' : (Nat → Int32)) (a14' : (Nat → Int64)) (a15' : (Nat → Int32)) (a16' : (Nat → Int64)) (a17' : (Nat → Int32)) (a18' : (Nat → Int32)), wL_lawOf_568 post mc ms J (nI (qc_enc W)) x9 x10 x11 x12 x15 x16 (nI (qc_ct (qc_f ρ R W 0 [] n) (w + 1))) (nI (qc_ct (fun w => decide (qc_R ρ R (qc_dg n w) = qc_dg n w)) w)) (qn_w a) (qn_w b) (nI n) (nI (4 ^ n + w)) (nI (qc_enc (qc_R ρ R (qc_dg n w)))) (nI (qc_enc O)) (nI (qc_enc T)) kc ks (nI R) (nI W.length) fl' fc' fg' fe' fw' ff' fa' a1 a2 a3 a4 a5 a6 a7' a8' a9' a10' a11' a12' a13' a14' a15' a16' a17' a18' := by
    intro fl' fc' fg' fe' fw' ff' fa' a7' a8' a9' a10' a11' a12' a13' a14' a15' a16' a17' a18'
    have HH := H fl' fc' fg' fe' fw' ff' fa' a7' a8' a9' a10' a11' a12' a13' a14' a15' a16' a17' a18'
    rw [qc_ct_s (fun w => decide (qc_R ρ R (qc_dg n w) = qc_dg n w))] at HH
    unfold wL_lawOf_568
    refine pk_eq (qc_enc (qc_R ρ R (qc_dg n w))) (4 ^ n + w) (fun z => nm_r (nI_1 _) (qv_578 hX hXl hT hTl hO hOl ?_)) (fun z => qv_578 hX hXl hT hTl hO hOl ?_)
    · rw [← he] at z
      rw [decide_eq_true (qc_enc_inj hX (qc_dg_lt n w) z)] at HH
      exact HH
    · rw [← he] at z
      rw [decide_eq_false (p := qc_R ρ R (qc_dg n w) = qc_dg n w) (fun y => z (by rw [y]))] at HH
      exact HH
  have K558 : ∀ (fl' : Int32) (fc' : Int32) (fg' : Int32) (fe' : Int32) (fw' : Int32) (ff' : Int32) (fa' : Int32) (a7' : (Nat → Int32)) (a8' : (Nat → Int32)) (a9' : (Nat → Int32)) (a10' : (Nat → Int32)) (a11' : (Nat → Int32)) (a12' : (Nat → Int32)) (a13' : (Nat → Int32)) (a14' : (Nat → Int64)) (a15' : (Nat → Int32)) (a16' : (Nat → Int64)) (a17' : (Nat → Int32)) (a18' : (Nat → Int32)), wL_lawOf_558 post mc ms J (nI (qc_enc W)) x9 x10 x11 x12 x15 x16 (nI (qc_ct (qc_f ρ R W 0 [] n) w)) (nI (qc_ct (fun w => decide (qc_R ρ R (qc_dg n w) = qc_dg n w)) w)) (qn_w a) (qn_w b) (nI n) (nI (4 ^ n + w)) (nI (qc_enc (qc_R ρ R (qc_dg n w)))) (nI (qc_enc O)) (nI (qc_enc T)) kc ks (nI R) (nI W.length) fl' fc' fg' fe' fw' ff' fa' a1 a2 a3 a4 a5 a6 a7' a8' a9' a10' a11' a12' a13' a14' a15' a16' a17' a18' := by
    intro fl' fc' fg' fe' fw' ff' fa' a7' a8' a9' a10' a11' a12' a13' a14' a15' a16' a17' a18'
    have HH := K568 fl' fc' fg' fe' fw' ff' fa' a7' a8' a9' a10' a11' a12' a13' a14' a15' a16' a17' a18'
    rw [qc_ct_s (qc_f ρ R W 0 [] n)] at HH
    unfold wL_lawOf_558
    refine pk_eq (qc_enc (qc_R ρ R (qc_dg n w))) (qc_enc W) (fun z => nm_r (nI_1 _) ?_) (fun z => ?_)
    · rw [if_pos (qc_f_0.mpr (qc_enc_inj hX hW.2.2 z))] at HH
      exact HH
    · rw [if_neg (fun y => z (by rw [qc_f_0.mp y]))] at HH
      exact HH
  unfold wL_lawOf_533
  refine pk_eq (qc_enc (qc_R ρ R (qc_dg n w))) (qc_enc W) (fun z => ?_) (fun z => K558 fl fc fg fe fw ff fa a7 a8 a9 a10 a11 a12 a13 a14 a15 a16 a17 a18)
  exact qw_source hR (by omega) hW hw (qc_enc_inj hX hW.2.2 z) (fun fl' fc' fg' fe' fw' ff' fa' a7' a8' a9' a10' a11' a12' a13' a14' a15' a16' a17' a18' => br_t rfl (K558 fl' fc' fg' fe' fw' ff' fa' a7' a8' a9' a10' a11' a12' a13' a14' a15' a16' a17' a18'))
end
section
/-! The law, from its loop over all words back to its first row. -/
theorem qv_444 {post : Int32 → St0 → Prop} {mc ms kc ks : Nat} {J : Int32 → Int32 → Int32 → Int32 → Int32 → Int32 → Int32 → Int32 → Int32 → Int32 → Int32 → Int32 → Int32 → Int32 → (Nat → Int32) → (Nat → Int32) → (Nat → Int32) → (Nat → Int32) → (Nat → Int32) → (Nat → Int32) → (Nat → Int32) → (Nat → Int32) → (Nat → Int32) → (Nat → Int32) → (Nat → Int32) → (Nat → Int32) → (Nat → Int32) → (Nat → Int64) → (Nat → Int32) → (Nat → Int64) → (Nat → Int32) → (Nat → Int32) → Prop} {fr fs fl fc fg fe fw ff fa : Int32} {a1 a2 a3 a4 a5 a6 a7 a8 a9 a10 a11 a12 a13 a15 a17 a18 : (Nat → Int32)} {a14 a16 : (Nat → Int64)} {x7 x15 x16 x17 x18 x19 x20 x21 x22 : Int32} {o t h R : Nat} {p q : List Nat} (ok : qv_ok o t h R) (hp : ∀ v, v ∈ p → v < 4) (hpl : p.length ≤ 12) (hq : ∀ v, v ∈ q → v < 4) (hql : q.length ≤ 12) (hx : x22 = nI (qc_enc p))
    (H : wL_lawOf_533 post mc ms J x7 (nI R) (nI o) (nI t) (nI h) x15 x16 x17 x18 x19 x20 x21 x22 (nI (qc_enc (qv_cm R 2 h q))) (nI (qc_enc (qv_cm R 2 h (qv_cm R 1 t p)))) (nI (qc_enc (qv_cm R 2 h (qc_B o (qv_cm R 1 t p))))) kc ks fr fs fl fc fg fe fw ff fa a1 a2 a3 a4 a5 a6 a7 a8 a9 a10 a11 a12 a13 a14 a15 a16 a17 a18) :
    wL_lawOf_444 post mc ms J x7 (nI R) (nI o) (nI t) (nI h) x15 x16 x17 x18 x19 x20 x21 x22 (nI (qc_enc q)) kc ks fr fs fl fc fg fe fw ff fa a1 a2 a3 a4 a5 a6 a7 a8 a9 a10 a11 a12 a13 a14 a15 a16 a17 a18 := by
  obtain ⟨⟨o1, o2⟩, ⟨t1, t2⟩, ⟨h1, h2⟩, _, hR3⟩ := ok
  subst hx
  have hc4 := qv_cm_lt (R := R) (c := 1) (ρ := t) hp
  have hcl := qv_cm_len (R := R) (c := 1) (ρ := t) hp hpl
  unfold wL_lawOf_444
  refine qv_opt (A := fun r => wL_lawOf_464 post mc ms J x7 (nI R) (nI o) (nI t) (nI h) x15 x16 x17 x18 x19 x20 x21 (nI (qc_enc p)) r kc ks fr fs fl fc fg fe fw ff fa a1 a2 a3 a4 a5 a6 a7 a8 a9 a10 a11 a12 a13 a14 a15 a16 a17 a18) (c := 2) hR3 (by omega) h2 h1 hq hql ?_
  unfold wL_lawOf_464
  refine qv_opt (A := fun r => wL_lawOf_484 post mc ms J x7 (nI R) (nI o) (nI t) (nI h) x15 x16 x17 x18 x19 x20 x21 (nI (qc_enc p)) (nI (qc_enc (qv_cm R 2 h q))) r kc ks fr fs fl fc fg fe fw ff fa a1 a2 a3 a4 a5 a6 a7 a8 a9 a10 a11 a12 a13 a14 a15 a16 a17 a18) (c := 1) hR3 (by omega) t2 t1 hp hpl ?_
  unfold wL_lawOf_484
  refine qv_opt (A := fun r => wL_lawOf_504 post mc ms J x7 (nI R) (nI o) (nI t) (nI h) x15 x16 x17 x18 x19 x20 x21 (nI (qc_enc p)) (nI (qc_enc (qv_cm R 2 h q))) (nI (qc_enc (qv_cm R 1 t p))) r kc ks fr fs fl fc fg fe fw ff fa a1 a2 a3 a4 a5 a6 a7 a8 a9 a10 a11 a12 a13 a14 a15 a16 a17 a18) (c := 2) hR3 (by omega) h2 h1 hc4 hcl ?_
  unfold wL_lawOf_504
  refine qw_made o2 o1 hc4 hcl ?_
  exact qv_opt (A := fun r => wL_lawOf_533 post mc ms J x7 (nI R) (nI o) (nI t) (nI h) x15 x16 x17 x18 x19 x20 x21 (nI (qc_enc p)) (nI (qc_enc (qv_cm R 2 h q))) (nI (qc_enc (qv_cm R 2 h (qv_cm R 1 t p)))) r kc ks fr fs fl fc fg fe fw ff fa a1 a2 a3 a4 a5 a6 a7 a8 a9 a10 a11 a12 a13 a14 a15 a16 a17 a18) (c := 2) hR3 (by omega) h2 h1 (qc_B_lt hc4) (qc_B_len hc4) H
theorem qv_iff {a b : Bool} {P : Prop} (h1 : a = true ↔ P) (h2 : b = true ↔ P) : a = b := by
  cases a with
  | false =>
    cases b with
    | false => rfl
    | true => exact (h1.mpr (h2.mp rfl)).symm ▸ rfl
  | true => exact (h2.mpr (h1.mp rfl)).symm
theorem qv_all_s {a : Bool} {F G : Nat → List Nat} {v : Nat} (h : a = true ↔ ∀ w, w < v → F w = G w) : (a && decide (F v = G v)) = true ↔ ∀ w, w < v + 1 → F w = G w := by
  rw [Bool.and_eq_true, h, decide_eq_true_iff]
  constructor
  · rintro ⟨h1, h2⟩ w hw
    by_cases z : w = v
    · rw [z]; exact h2
    · exact h1 w (by omega)
  · intro g
    exact ⟨fun w hw => g w (by omega), g v (by omega)⟩
theorem qv_406 {post : Int32 → St0 → Prop} {mc ms kc ks : Nat} {fl fc fg fe fw ff fa : Int32} {a1 a2 a3 a4 a5 a6 a7 a8 a9 a10 a11 a12 a13 a15 a17 a18 : (Nat → Int32)} {a14 a16 : (Nat → Int64)} {o t h R n : Nat} {W : List Nat} (ok : qv_ok o t h R) (hR : qc_Rs a1 a2 a3 a4 a5 (qv_r o t h) R) (hW : qc_Wd a6 W) (hn : n ≤ 4) (H : post 1 ()) :
    ∃ f, wL_lawOf_406 post mc ms (nI (qc_enc W)) (nI R) (nI o) (nI t) (nI h) (nI (qc_enc (qc_R (qv_r o t h) R W))) (nI (qc_R (qv_r o t h) R W).length) (nI n) kc ks f 0 0 1 1 (nI (4 ^ n)) (nI R) (nI W.length) fl fc fg fe fw ff fa a1 a2 a3 a4 a5 a6 a7 a8 a9 a10 a11 a12 a13 a14 a15 a16 a17 a18 := by
  have h5 := qc_p5 (show n ≤ 5 by omega)
  obtain ⟨R', rfl⟩ : ∃ R', R = R' + 1 := ⟨R - 1, by have := ok.2.2.2.1; omega⟩
  have ok' := ok
  obtain ⟨⟨o1, o2⟩, ⟨t1, t2⟩, ⟨h1, h2⟩, _, hR3⟩ := ok
  refine pk_loop (σ := Int32 × Int32 × Int32 × Int32 × Int32 × Int32 × Int32 × Int32 × Int32 × Int32 × Int32 × (Nat → Int32) × (Nat → Int32) × (Nat → Int32) × (Nat → Int32) × (Nat → Int32) × (Nat → Int32) × (Nat → Int32) × (Nat → Int64) × (Nat → Int32) × (Nat → Int64) × (Nat → Int32) × (Nat → Int32)) (fun f v s => wL_lawOf_406 post mc ms (nI (qc_enc W)) (nI (R' + 1)) (nI o) (nI t) (nI h) (nI (qc_enc (qc_R (qv_r o t h) (R' + 1) W))) (nI (qc_R (qv_r o t h) (R' + 1) W).length) (nI n) kc ks f s.1 s.2.1 s.2.2.1 s.2.2.2.1 (nI (4 ^ n + v)) (nI (R' + 1)) (nI W.length) s.2.2.2.2.1 s.2.2.2.2.2.1 s.2.2.2.2.2.2.1 s.2.2.2.2.2.2.2.1 s.2.2.2.2.2.2.2.2.1 s.2.2.2.2.2.2.2.2.2.1 s.2.2.2.2.2.2.2.2.2.2.1 a1 a2 a3 a4 a5 a6 s.2.2.2.2.2.2.2.2.2.2.2.1 s.2.2.2.2.2.2.2.2.2.2.2.2.1 s.2.2.2.2.2.2.2.2.2.2.2.2.2.1 s.2.2.2.2.2.2.2.2.2.2.2.2.2.2.1 s.2.2.2.2.2.2.2.2.2.2.2.2.2.2.2.1 s.2.2.2.2.2.2.2.2.2.2.2.2.2.2.2.2.1 s.2.2.2.2.2.2.2.2.2.2.2.2.2.2.2.2.2.1 s.2.2.2.2.2.2.2.2.2.2.2.2.2.2.2.2.2.2.1 s.2.2.2.2.2.2.2.2.2.2.2.2.2.2.2.2.2.2.2.1 s.2.2.2.2.2.2.2.2.2.2.2.2.2.2.2.2.2.2.2.2.1 s.2.2.2.2.2.2.2.2.2.2.2.2.2.2.2.2.2.2.2.2.2.1 s.2.2.2.2.2.2.2.2.2.2.2.2.2.2.2.2.2.2.2.2.2.2)
    (fun v s => ∃ a b : Bool, s.1 = nI (qc_ct (qc_f (qv_r o t h) (R' + 1) W 0 [] n) v) ∧ s.2.1 = nI (qc_ct (fun w => decide (qc_R (qv_r o t h) (R' + 1) (qc_dg n w) = qc_dg n w)) v) ∧ s.2.2.1 = qn_w a ∧ s.2.2.2.1 = qn_w b
      ∧ (a = true ↔ ∀ w, w < v → qc_R (qv_r o t h) (R' + 1) (qc_dg n w) = qv_cm (R' + 1) 2 h (qv_cm (R' + 1) 1 t (qc_dg n w))) ∧ (b = true ↔ ∀ w, w < v → qc_R (qv_r o t h) (R' + 1) (qc_dg n w) = qv_cm (R' + 1) 2 h (qc_B o (qv_cm (R' + 1) 1 t (qc_dg n w)))))
    (4 ^ n) 0 (0, 0, 1, 1, fl, fc, fg, fe, fw, ff, fa, a7, a8, a9, a10, a11, a12, a13, a14, a15, a16, a17, a18) (Nat.zero_le _) ⟨true, true, rfl, rfl, rfl, rfl, ⟨fun _ w hw => absurd hw (by omega), fun _ => rfl⟩, ⟨fun _ w hw => absurd hw (by omega), fun _ => rfl⟩⟩ (fun f s hs => ?_) (fun f v s hi hs hw => ?_)
  · obtain ⟨x17, x18, x19, x20, fl', fc', fg', fe', fw', ff', fa', a7', a8', a9', a10', a11', a12', a13', a14', a15', a16', a17', a18'⟩ := s
    obtain ⟨a, b, e1, e2, e3, e4, ha, hb⟩ := hs
    dsimp only at e1 e2 e3 e4 ⊢
    subst e1 e2 e3 e4
    refine pk_le (2 * 4 ^ n) (4 ^ n + 4 ^ n) (fun _ => ?_) (fun z => absurd z (by omega)) (hx := qn_p2 n (by omega))
    refine qw_sources hR (by omega) hW (fun fl'' fc'' fg'' fe'' fw'' ff'' fa'' a7'' a8'' a9'' a10'' a11'' a12'' a13'' a14'' a15'' a16'' a17'' a18'' => br_t rfl ?_)
    refine qw_source_none hR (by omega) hW (fun fl'' fc'' fg'' fe'' fw'' ff'' fa'' a7'' a8'' a9'' a10'' a11'' a12'' a13'' a14'' a15'' a16'' a17'' a18'' => br_t rfl ?_)
    refine qw_still hR hn hW (fun fl'' fc'' fg'' fe'' fw'' ff'' fa'' a7'' a8'' a9'' a10'' a11'' a12'' a13'' a14'' a15'' a16'' a17'' a18'' => br_t rfl ?_)
    refine qw_idle hR (by omega) hW (fun b' fl'' fc'' fg'' fe'' fw'' ff'' fa'' a7'' a8'' a9'' a10'' a11'' a12'' a13'' a14'' a15'' a16'' a17'' a18'' hb' => br_t ?_ ?_)
    · have e : b' = a := qv_iff hb' (by
        rw [ha]
        exact ⟨fun g w hw => by rw [qv_Ri ok', g w hw], fun g w hw => by rw [← g w hw, qv_Ri ok']⟩)
      rw [e]
    · cases R' with
      | zero => exact qw_commute1 (pk_le 1 1 (fun _ => qv_678 hR hW hn rfl H) (fun z => absurd z (by omega)))
      | succ R' =>
        refine qw_commute hR (by omega) hW (fun b'' fl'' fc'' fg'' fe'' fw'' ff'' fa'' a7'' a8'' a9'' a10'' a11'' a12'' a13'' a14'' a15'' a16'' a17'' a18'' hb'' => pk_le (R' + 1 + 1) 1 (fun z => absurd z (by omega)) (fun _ => qv_678 hR hW hn ?_ H))
        have e : b'' = b := qv_iff hb'' (by
          rw [hb]
          exact ⟨fun g w hw => by rw [qv_Rc ok', g w hw], fun g w hw => by rw [← g w hw, qv_Rc ok']⟩)
        rw [e]
  · obtain ⟨x17, x18, x19, x20, fl', fc', fg', fe', fw', ff', fa', a7', a8', a9', a10', a11', a12', a13', a14', a15', a16', a17', a18'⟩ := s
    obtain ⟨a, b, e1, e2, e3, e4, ha, hb⟩ := hs
    dsimp only at e1 e2 e3 e4 ⊢
    subst e1 e2 e3 e4
    have he := qc_enc_dg n v hi
    have hp := qc_dg_lt n v
    have hpl : (qc_dg n v).length ≤ 12 := by rw [qc_dg_len]; omega
    have hc4 := qv_cm_lt (R := R' + 1) (c := 1) (ρ := t) hp
    have hcl := qv_cm_len (R := R' + 1) (c := 1) (ρ := t) hp hpl
    have hB4 := qc_B_lt (ρ := o) hp
    have hBl := qc_B_len (ρ := o) hp
    refine pk_le (2 * 4 ^ n) (4 ^ n + v) (fun z => absurd z (by omega)) (fun _ => ?_) (hx := qn_p2 n (by omega))
    have M : ∀ (Q : Int32 → Prop), Q (nI (qc_enc (qc_B o (qc_dg n v)))) → wpL_made Q () (nI (4 ^ n + v)) (nI o) := by
      intro Q hQ
      rw [← he]
      exact qw_made o2 o1 hp hpl hQ
    refine M _ ?_
    refine qv_opt (A := fun r => wL_lawOf_444 post mc ms (wL_lawOf_406 post mc ms (nI (qc_enc W)) (nI (R' + 1)) (nI o) (nI t) (nI h) (nI (qc_enc (qc_R (qv_r o t h) (R' + 1) W))) (nI (qc_R (qv_r o t h) (R' + 1) W).length) (nI n) kc ks f) (nI (qc_enc W)) (nI (R' + 1)) (nI o) (nI t) (nI h) (nI (qc_enc (qc_R (qv_r o t h) (R' + 1) W))) (nI (qc_R (qv_r o t h) (R' + 1) W).length) (nI (qc_ct (qc_f (qv_r o t h) (R' + 1) W 0 [] n) v)) (nI (qc_ct (fun w => decide (qc_R (qv_r o t h) (R' + 1) (qc_dg n w) = qc_dg n w)) v)) (qn_w a) (qn_w b) (nI n) (nI (4 ^ n + v)) r kc ks (nI (R' + 1)) (nI W.length) fl' fc' fg' fe' fw' ff' fa' a1 a2 a3 a4 a5 a6 a7' a8' a9' a10' a11' a12' a13' a14' a15' a16' a17' a18') (c := 1) hR3 (by omega) t2 t1 hB4 hBl ?_
    refine qv_444 ok' hp hpl (qv_cm_lt hB4) (qv_cm_len hB4 hBl) (by rw [he]) ?_
    rw [← qv_R ok']
    refine qv_533 hR hW hn hi (qv_cm_lt (qc_B_lt hc4)) (qv_cm_len (qc_B_lt hc4) (qc_B_len hc4)) (qv_cm_lt hc4) (qv_cm_len hc4 hcl) (fun fl'' fc'' fg'' fe'' fw'' ff'' fa'' a7'' a8'' a9'' a10'' a11'' a12'' a13'' a14'' a15'' a16'' a17'' a18'' => ?_)
    exact hw (_, _, _, _, fl'', fc'', fg'', fe'', fw'', ff'', fa'', a7'', a8'', a9'', a10'', a11'', a12'', a13'', a14'', a15'', a16'', a17'', a18'') ⟨_, _, rfl, rfl, rfl, rfl, qv_all_s (F := fun w => qc_R (qv_r o t h) (R' + 1) (qc_dg n w)) (G := fun w => qv_cm (R' + 1) 2 h (qv_cm (R' + 1) 1 t (qc_dg n w))) ha, qv_all_s (F := fun w => qc_R (qv_r o t h) (R' + 1) (qc_dg n w)) (G := fun w => qv_cm (R' + 1) 2 h (qc_B o (qv_cm (R' + 1) 1 t (qc_dg n w)))) hb⟩
theorem qv_329 {post : Int32 → St0 → Prop} {mc ms kc ks : Nat} {fl fc fg fe fw ff fa : Int32} {a1 a2 a3 a4 a5 a6 a7 a8 a9 a10 a11 a12 a13 a15 a17 a18 : (Nat → Int32)} {a14 a16 : (Nat → Int64)} {x5 : Int32} {o t h R : Nat} {W : List Nat} (ok : qv_ok o t h R) (hR : qc_Rs a1 a2 a3 a4 a5 (qv_r o t h) R) (hW : qc_Wd a6 W) (H : post 1 ()) :
    ∃ f, wL_lawOf_329 post mc ms x5 (nI (qc_enc W)) (nI R) (nI o) (nI t) (nI h) (nI (qc_enc (qc_R (qv_r o t h) R W))) (nI (qc_R (qv_r o t h) R W).length) kc ks f 0 (nI R) (nI W.length) fl fc fg fe fw ff fa a1 a2 a3 a4 a5 a6 a7 a8 a9 a10 a11 a12 a13 a14 a15 a16 a17 a18 := by
  have hL4 := qc_R_lt (ρ := qv_r o t h) R hW.2.2
  have hLl := qc_R_len (ρ := qv_r o t h) R hW.2.2 hW.2.1
  refine pk_loop (σ := Int32 × Int32 × Int32 × Int32 × Int32 × Int32 × Int32 × (Nat → Int32) × (Nat → Int32) × (Nat → Int32) × (Nat → Int32) × (Nat → Int32) × (Nat → Int32) × (Nat → Int32) × (Nat → Int64) × (Nat → Int32) × (Nat → Int64) × (Nat → Int32) × (Nat → Int32)) (fun f i s => wL_lawOf_329 post mc ms x5 (nI (qc_enc W)) (nI R) (nI o) (nI t) (nI h) (nI (qc_enc (qc_R (qv_r o t h) R W))) (nI (qc_R (qv_r o t h) R W).length) kc ks f (nI i) (nI R) (nI W.length) s.1 s.2.1 s.2.2.1 s.2.2.2.1 s.2.2.2.2.1 s.2.2.2.2.2.1 s.2.2.2.2.2.2.1 a1 a2 a3 a4 a5 a6 s.2.2.2.2.2.2.2.1 s.2.2.2.2.2.2.2.2.1 s.2.2.2.2.2.2.2.2.2.1 s.2.2.2.2.2.2.2.2.2.2.1 s.2.2.2.2.2.2.2.2.2.2.2.1 s.2.2.2.2.2.2.2.2.2.2.2.2.1 s.2.2.2.2.2.2.2.2.2.2.2.2.2.1 s.2.2.2.2.2.2.2.2.2.2.2.2.2.2.1 s.2.2.2.2.2.2.2.2.2.2.2.2.2.2.2.1 s.2.2.2.2.2.2.2.2.2.2.2.2.2.2.2.2.1 s.2.2.2.2.2.2.2.2.2.2.2.2.2.2.2.2.2.1 s.2.2.2.2.2.2.2.2.2.2.2.2.2.2.2.2.2.2) (fun _ _ => True) ((qc_R (qv_r o t h) R W).length + 1) 0 (fl, fc, fg, fe, fw, ff, fa, a7, a8, a9, a10, a11, a12, a13, a14, a15, a16, a17, a18) (Nat.zero_le _) trivial (fun f s _ => ?_) (fun f i s hi _ hw => ?_)
  · obtain ⟨fl', fc', fg', fe', fw', ff', fa', a7', a8', a9', a10', a11', a12', a13', a14', a15', a16', a17', a18'⟩ := s
    obtain ⟨d, hd, ed⟩ := qn_any (x5 >>> ((7 : Int32) &&& 31))
    refine pk_lt (qc_R (qv_r o t h) R W).length ((qc_R (qv_r o t h) R W).length + 1) (fun _ => nm_r (e' := nI (1 + d)) ?_ (nm_r (qn_p1 (1 + d) (by omega)) (qv_406 ok hR hW (by omega) H))) (fun z => absurd z (by omega))
    rw [ed]
    exact nI_add 1 d
  · obtain ⟨fl', fc', fg', fe', fw', ff', fa', a7', a8', a9', a10', a11', a12', a13', a14', a15', a16', a17', a18'⟩ := s
    refine pk_lt (qc_R (qv_r o t h) R W).length i (fun z => absurd z (by omega)) (fun _ => ?_)
    refine qw_letter hR hW (by omega) (fun hge fl'' fc'' fg'' fe'' fw'' ff'' fa'' a7'' a8'' a9'' a10'' a11'' a12'' a13'' a14'' a15'' a16'' a17'' a18'' => ?_) (fun v hv fl'' fc'' fg'' fe'' fw'' ff'' fa'' a7'' a8'' a9'' a10'' a11'' a12'' a13'' a14'' a15'' a16'' a17'' a18'' => ?_)
    · refine pk_le (qc_R (qv_r o t h) R W).length i (fun _ => ?_) (fun z => absurd z (by omega))
      unfold wL_lawOf_364
      exact br_t rfl (nm_r (nI_1 i) (hw (fl'', fc'', fg'', fe'', fw'', ff'', fa'', a7'', a8'', a9'', a10'', a11'', a12'', a13'', a14'', a15'', a16'', a17'', a18'') trivial))
    · have hlt : i < (qc_R (qv_r o t h) R W).length := by
        rcases Nat.lt_or_ge i (qc_R (qv_r o t h) R W).length with z | z
        · exact z
        · rw [List.getElem?_eq_none z] at hv
          exact absurd hv (by simp)
      refine pk_le (qc_R (qv_r o t h) R W).length i (fun z => absurd z (by omega)) (fun _ => ?_)
      refine qw_at hL4 hLl (by omega) ?_
      unfold wL_lawOf_364
      refine br_t ?_ (nm_r (nI_1 i) (hw (fl'', fc'', fg'', fe'', fw'', ff'', fa'', a7'', a8'', a9'', a10'', a11'', a12'', a13'', a14'', a15'', a16'', a17'', a18'') trivial))
      rw [List.getD_eq_getElem?_getD, hv]
      rfl
theorem qv_291 {post : Int32 → St0 → Prop} {mc ms kc ks : Nat} {fl fc fg fe fw ff fa : Int32} {a1 a2 a3 a4 a5 a6 a7 a8 a9 a10 a11 a12 a13 a15 a17 a18 : (Nat → Int32)} {a14 a16 : (Nat → Int64)} {x5 : Int32} {o t h R c : Nat} {W : List Nat} (ok : qv_ok o t h R) (hR : qc_Rs a1 a2 a3 a4 a5 (qv_r o t h) R) (hW : qc_Wd a6 W) (hc : c ≤ R) (H : post 1 ()) :
    wL_lawOf_291 post mc ms x5 (nI (qc_enc W)) (nI R) (nI o) (nI t) (nI h) (nI (qc_enc (qc_R (qv_r o t h) c W))) (nI (qc_enc (qc_R (qv_r o t h) R W))) (nI (qc_R (qv_r o t h) R W).length) (nI c) kc ks (nI R) (nI W.length) fl fc fg fe fw ff fa a1 a2 a3 a4 a5 a6 a7 a8 a9 a10 a11 a12 a13 a14 a15 a16 a17 a18 := by
  unfold wL_lawOf_291
  refine qw_after hR hc hW (fun fl' fc' fg' fe' fw' ff' fa' a7' a8' a9' a10' a11' a12' a13' a14' a15' a16' a17' a18' => br_t rfl (qw_after hR (Nat.le_refl R) hW (fun fl'' fc'' fg'' fe'' fw'' ff'' fa'' a7'' a8'' a9'' a10'' a11'' a12'' a13'' a14'' a15'' a16'' a17'' a18'' => br_t rfl ?_)))
  rw [nI_1]
  exact qw_after_bad hR.1 (br_t rfl (qv_329 ok hR hW H))
theorem qv_247 {post : Int32 → St0 → Prop} {mc ms kc ks : Nat} {fl fc fg fe fw ff fa : Int32} {a1 a2 a3 a4 a5 a6 a7 a8 a9 a10 a11 a12 a13 a15 a17 a18 : (Nat → Int32)} {a14 a16 : (Nat → Int64)} {x5 : Int32} {o t h R : Nat} {W : List Nat} (ok : qv_ok o t h R) (hR : qc_Rs a1 a2 a3 a4 a5 (qv_r o t h) R) (hW : qc_Wd a6 W) (H : post 1 ()) :
    wL_lawOf_247 post mc ms x5 (nI (qc_enc W)) (nI R) (nI o) (nI t) (nI h) (nI (qc_enc (qc_B o W))) (nI (qc_enc (qv_cm R 1 t (qc_B o W)))) (nI (qc_enc (qc_R (qv_r o t h) R W))) kc ks (nI R) (nI W.length) fl fc fg fe fw ff fa a1 a2 a3 a4 a5 a6 a7 a8 a9 a10 a11 a12 a13 a14 a15 a16 a17 a18 := by
  have h1 := ok.2.2.2.1
  have h3 := ok.2.2.2.2
  unfold wL_lawOf_247
  refine qw_size (qc_R_lt R hW.2.2) (qc_R_len R hW.2.2 hW.2.1) ?_
  refine qw_after (k := 0) hR (Nat.zero_le R) hW (fun fl' fc' fg' fe' fw' ff' fa' a7' a8' a9' a10' a11' a12' a13' a14' a15' a16' a17' a18' => br_t rfl (qw_after (k := 1) hR h1 hW (fun fl'' fc'' fg'' fe'' fw'' ff'' fa'' a7'' a8'' a9'' a10'' a11'' a12'' a13'' a14'' a15'' a16'' a17'' a18'' => br_t rfl (pk_le R 1 (fun z => ?_) (fun z => ?_)))))
  · have e : qv_cm R 1 t (qc_B o W) = qc_R (qv_r o t h) 1 W := by
      unfold qv_cm
      rw [if_pos z]
      rfl
    rw [e]
    exact qv_291 (c := 1) ok hR hW h1 H
  · have e : qv_cm R 1 t (qc_B o W) = qc_R (qv_r o t h) 2 W := by
      unfold qv_cm
      rw [if_neg (by omega)]
      rfl
    rw [e]
    exact qv_291 (c := 2) ok hR hW z H
theorem qv_200 {post : Int32 → St0 → Prop} {mc ms kc ks : Nat} {fl fc fg fe fw ff fa : Int32} {a1 a2 a3 a4 a5 a6 a7 a8 a9 a10 a11 a12 a13 a15 a17 a18 : (Nat → Int32)} {a14 a16 : (Nat → Int64)} {x5 : Int32} {o t h R : Nat} {W : List Nat} (ok : qv_ok o t h R) (hR : qc_Rs a1 a2 a3 a4 a5 (qv_r o t h) R) (hW : qc_Wd a6 W) (H : post 1 ()) :
    wL_lawOf_200 post mc ms x5 (nI (qc_enc W)) (nI R) (nI o) (nI t) (nI h) kc ks (nI R) (nI W.length) fl fc fg fe fw ff fa a1 a2 a3 a4 a5 a6 a7 a8 a9 a10 a11 a12 a13 a14 a15 a16 a17 a18 := by
  have ok' := ok
  obtain ⟨⟨o1, o2⟩, ⟨t1, t2⟩, ⟨h1, h2⟩, _, hR3⟩ := ok
  have hB4 := qc_B_lt (ρ := o) hW.2.2
  have hBl := qc_B_len (ρ := o) hW.2.2
  unfold wL_lawOf_200
  refine qw_made o2 o1 hW.2.2 hW.2.1 ?_
  refine qv_opt (A := fun r => wL_lawOf_227 post mc ms x5 (nI (qc_enc W)) (nI R) (nI o) (nI t) (nI h) (nI (qc_enc (qc_B o W))) r kc ks (nI R) (nI W.length) fl fc fg fe fw ff fa a1 a2 a3 a4 a5 a6 a7 a8 a9 a10 a11 a12 a13 a14 a15 a16 a17 a18) (c := 1) hR3 (by omega) t2 t1 hB4 hBl ?_
  unfold wL_lawOf_227
  refine qv_opt (A := fun r => wL_lawOf_247 post mc ms x5 (nI (qc_enc W)) (nI R) (nI o) (nI t) (nI h) (nI (qc_enc (qc_B o W))) (nI (qc_enc (qv_cm R 1 t (qc_B o W)))) r kc ks (nI R) (nI W.length) fl fc fg fe fw ff fa a1 a2 a3 a4 a5 a6 a7 a8 a9 a10 a11 a12 a13 a14 a15 a16 a17 a18) (c := 2) hR3 (by omega) h2 h1 (qv_cm_lt hB4) (qv_cm_len hB4 hBl) ?_
  rw [← qv_R ok']
  exact qv_247 ok' hR hW H
theorem qv_153 {post : Int32 → St0 → Prop} {mc ms kc ks : Nat} {fl fc fg fe fw ff fa : Int32} {a1 a2 a3 a4 a5 a6 a7 a8 a9 a10 a11 a12 a13 a15 a17 a18 : (Nat → Int32)} {a14 a16 : (Nat → Int64)} {x5 : Int32} {o t h R : Nat} {W : List Nat} (ok : qv_ok o t h R) (hW : qc_Wd a6 W) (H : post 1 ()) :
    wL_lawOf_153 post mc ms x5 (nI (qc_enc W)) (nI R) (nI o) (nI t) (nI h) kc ks (nI 0) (nI W.length) fl fc fg fe fw ff fa a1 a2 a3 a4 a5 a6 a7 a8 a9 a10 a11 a12 a13 a14 a15 a16 a17 a18 := by
  have ok' := ok
  obtain ⟨⟨o1, o2⟩, ⟨t1, t2⟩, ⟨h1, h2⟩, hR1, hR3⟩ := ok
  unfold wL_lawOf_153
  refine qw_add (R := 0) (by omega) o2 o1 (fun a1' a2' a3' a4' a5' g1 g2 => br_f (by decide) (pk_le R 1 (fun z => ?_) (fun z => ?_)))
  · have e : R = 1 := by omega
    subst e
    unfold wL_lawOf_181
    exact br_t (by decide) (qv_200 ok' ⟨by omega, fun r hr => by
      have : r = 0 := by omega
      subst this
      exact g2⟩ hW H)
  · refine qw_add (R := 1) (by omega) t2 t1 (fun a1'' a2'' a3'' a4'' a5'' k1 k2 => br_f (by decide) ?_)
    unfold wL_lawOf_181
    have R2 : qc_Rs a1'' a2'' a3'' a4'' a5'' (qv_r o t h) 2 := ⟨by omega, fun r hr => by
      rcases (by omega : r = 0 ∨ r = 1) with e | e
      · subst e
        exact k1 0 _ (by omega) g2
      · subst e
        exact k2⟩
    refine pk_le R 2 (fun z2 => ?_) (fun z2 => ?_)
    · have e : R = 2 := by omega
      subst e
      exact qv_200 ok' R2 hW H
    · have e : R = 3 := by omega
      subst e
      refine qw_add (R := 2) (by omega) h2 h1 (fun a1''' a2''' a3''' a4''' a5''' l1 l2 => br_f (by decide) ?_)
      refine qv_200 ok' ⟨by omega, fun r hr => ?_⟩ hW H
      by_cases e : r = 2
      · subst e
        exact l2
      · exact l1 r _ (by omega) (R2.2 r (by omega))
theorem qv_87 {post : Int32 → St0 → Prop} {mc ms kc ks : Nat} {fl fc fg fe fw ff fa : Int32} {a1 a2 a3 a4 a5 a6 a7 a8 a9 a10 a11 a12 a13 a15 a17 a18 : (Nat → Int32)} {a14 a16 : (Nat → Int64)} {x3 x5 : Int32} {o t h R N : Nat} (ok : qv_ok o t h R) (hN : N ≤ 12) (H : post 1 ()) :
    ∃ f, wL_lawOf_87 post mc ms x3 x5 (nI N) (nI R) (nI o) (nI t) (nI h) kc ks f 1 0 (nI 0) (nI 0) fl fc fg fe fw ff fa a1 a2 a3 a4 a5 a6 a7 a8 a9 a10 a11 a12 a13 a14 a15 a16 a17 a18 := by
  refine pk_loop (σ := Int32 × Int32 × (Nat → Int32)) (fun f i s => wL_lawOf_87 post mc ms x3 x5 (nI N) (nI R) (nI o) (nI t) (nI h) kc ks f s.1 (nI i) (nI 0) s.2.1 fl fc fg fe fw ff fa a1 a2 a3 a4 a5 s.2.2 a7 a8 a9 a10 a11 a12 a13 a14 a15 a16 a17 a18)
    (fun i s => ∃ P : List Nat, P.length = i ∧ s.1 = nI (qc_enc P) ∧ s.2.1 = nI P.length ∧ qc_Wd s.2.2 P) N 0 (1, nI 0, a6) (Nat.zero_le _) ⟨[], rfl, rfl, rfl, qc_A_0 _, Nat.zero_le _, qc_nil4⟩ (fun f s hs => ?_) (fun f i s hi hs hw => ?_)
  · obtain ⟨x7, fs', a6'⟩ := s
    obtain ⟨P, p1, p2, p3, p4⟩ := hs
    dsimp only at p2 p3 p4 ⊢
    subst p2 p3
    refine pk_le N N (fun _ => pk_eq N 12 (fun z => ?_) (fun z => qv_153 ok p4 H)) (fun z => absurd z (by omega))
    have e : P.length = 12 := by omega
    rw [e]
    refine qw_push_full (d := 1) (by omega) (br_t rfl ?_)
    rw [← e]
    exact qv_153 ok p4 H
  · obtain ⟨x7, fs', a6'⟩ := s
    obtain ⟨P, p1, p2, p3, p4⟩ := hs
    dsimp only at p2 p3 p4 ⊢
    subst p2 p3
    obtain ⟨d, hd, ed⟩ := qn_any (x3 >>> (((2 : Int32) * nI i) &&& 31))
    refine pk_le N i (fun z => absurd z (by omega)) (fun _ => nm_r ed (qw_push hd p4 (by omega) (fun a6'' g => br_t (by rw [p1, nI_1]) (nm_r (qn_4m _ _) (nm_r (nI_1 i) (hw (nI (4 * qc_enc P + d), nI (P.length + 1), a6'') ⟨P ++ [d], ?_, ?_, ?_, g⟩))))))
    · rw [List.length_append, p1]; rfl
    · rw [qc_enc_s]
    · rw [List.length_append]; rfl
theorem qn_m1 (b : Nat) : nI (b + 1) + (-1) = nI b := pk_m1 b
theorem qn_m2 (b : Nat) : nI (b + 2) + (-2) = nI b := by
  rw [← nI_add b 2, Int32.add_assoc, show nI 2 + (-2) = 0 from rfl, Int32.add_zero]
theorem qn_m3 (b : Nat) : nI (b + 3) + (-3) = nI b := by
  rw [← nI_add b 3, Int32.add_assoc, show nI 3 + (-3) = 0 from rfl, Int32.add_zero]
/-- a rule's word, mended if its kind is 3 -/
theorem qv_fix {x : Nat} (hx : x < 65536) {c : Nat} {m : Int32} (hc : 1 ≤ c ∧ c ≤ 3) (hm : ∀ b, nI (b + c) + m = nI b) {A : Int32 → Prop} (H : ∀ y, y < 65536 → qc_k y < 3 → A (nI y)) :
    ((nI x &&& 3) = 3 → ∀ z, z = nI x + m → A z) ∧ (¬ (nI x &&& 3) = 3 → A (nI x)) := by
  refine pk_eq (x % 4) 3 (fun z => ?_) (fun z => ?_) (hx := qn_and3 (by omega))
  · obtain ⟨b, rfl⟩ : ∃ b, x = b + c := ⟨x - c, by omega⟩
    refine nm_r (hm b) (H b (by omega) ?_)
    unfold qc_k
    omega
  · refine H x hx ?_
    unfold qc_k
    omega
end
section
/-! What is owed. -/
theorem qv_62 {post : Int32 → St0 → Prop} {mc ms kc ks : Nat} {fl fc fg fe fw ff fa : Int32} {a1 a2 a3 a4 a5 a6 a7 a8 a9 a10 a11 a12 a13 a15 a17 a18 : (Nat → Int32)} {a14 a16 : (Nat → Int64)} {x3 x5 : Int32} {o b c R N : Nat} (o1 : o < 65536) (o2 : qc_k o < 3) (hb : b < 65536) (hc : c < 65536) (hR1 : 1 ≤ R) (hR3 : R ≤ 3) (hN : N ≤ 12) (H : post 1 ()) :
    wL_lawOf_62 post mc ms x3 x5 1 (nI N) (nI R) (nI o) (nI b) (nI c) kc ks (nI 0) (nI 0) fl fc fg fe fw ff fa a1 a2 a3 a4 a5 a6 a7 a8 a9 a10 a11 a12 a13 a14 a15 a16 a17 a18 := by
  unfold wL_lawOf_62
  refine qv_fix hb (c := 2) (by omega) qn_m2 (fun t t1 t2 => ?_)
  unfold wL_lawOf_73
  exact qv_fix hc (c := 3) (by omega) qn_m3 (fun h h1 h2 => qv_87 ⟨⟨o1, o2⟩, ⟨t1, t2⟩, ⟨h1, h2⟩, hR1, hR3⟩ hN H)
theorem qv_lawOf {post : Int32 → St0 → Prop} {p0 p1 p2 p3 p4 p5 : Int32} (H : post 1 ()) : wpL_lawOf post 19 5376 () p0 p1 p2 p3 p4 p5 := by
  obtain ⟨j0, h0, e0⟩ := pk_andE p0 (m := 65535) 16 (by decide)
  obtain ⟨j1, h1, e1⟩ := pk_andE p1 (m := 65535) 16 (by decide)
  obtain ⟨j2, h2, e2⟩ := pk_andE p2 (m := 65535) 16 (by decide)
  obtain ⟨j4, h4, e4⟩ := pk_andE p4 (m := 127) 7 (by decide)
  obtain ⟨j5, h5, e5⟩ := pk_andE p5 (m := 127) 7 (by decide)
  have r4 : (p4 &&& 127) - (p4 &&& 127) / 13 * 13 = nI (j4 % 13) := by
    rw [e4]
    exact pk_rem (d := 13) (by omega) (by decide) (by decide)
  have r5 : 1 + ((p5 &&& 127) - (p5 &&& 127) / 3 * 3) = nI (1 + j5 % 3) := by
    have e : (p5 &&& 127) - (p5 &&& 127) / 3 * 3 = nI (j5 % 3) := by
      rw [e5]
      exact pk_rem (d := 3) (by omega) (by decide) (by decide)
    rw [e]
    exact nI_add 1 _
  unfold wpL_lawOf
  refine ⟨by decide, by decide, 18, 5349, by decide, by decide, ?_⟩
  unfold wpX_init
  refine ⟨by decide, by decide, by decide, by decide, by decide, by decide, by decide, by decide, by decide, by decide, by decide, by decide, by decide, by decide, by decide, by decide, by decide, by decide, by decide, by decide, by decide, by decide, by decide, by decide, by decide, by decide, by decide, by decide, by decide, by decide, by decide, by decide, by decide, by decide, by decide, by decide, ?_⟩
  refine ⟨by decide, nm_r r4 ⟨by decide, nm_r r5 (nm_r e0 (nm_r e1 (nm_r e2 ?_)))⟩⟩
  exact qv_fix h0 (c := 1) (by omega) qn_m1 (fun o o1 o2 => qv_62 o1 o2 h1 h2 (by omega) (by omega) (by omega) H)
theorem qv_cell {post : Int32 → Prop} {L i : Nat} {xs : Nat → Int32} (hL : L ≤ 6) (hi : i < 100) (H : ∀ x, post x) : wpL_cellAt post L xs () (nI i) := by
  unfold wpL_cellAt
  exact pk_le L i (fun _ => H 0) (fun z => ⟨pk_in i L z, H _⟩)
theorem i_vc (xs : Nat → Int32) (L : Nat) (hL : L ≤ 6) : wpL_law (fun r => r = 1) L xs := by
  unfold wpL_law
  refine qv_cell (i := 0) hL (by omega) (fun r1 => qv_cell (i := 1) hL (by omega) (fun r2 => qv_cell (i := 2) hL (by omega) (fun r3 => qv_cell (i := 3) hL (by omega) (fun r4 => qv_cell (i := 4) hL (by omega) (fun r5 => qv_cell (i := 5) hL (by omega) (fun r6 => ?_))))))
  exact ⟨19, 5376, by decide, by decide, qv_lawOf rfl⟩
end
