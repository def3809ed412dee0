section
/-! ===== counting below n ===== -/
noncomputable def md_b (p : Prop) : Nat := @ite Nat p (Classical.propDecidable p) 1 0
theorem md_b_t {p : Prop} (h : p) : md_b p = 1 := if_pos h
theorem md_b_f {p : Prop} (h : ¬ p) : md_b p = 0 := if_neg h
theorem md_b_le (p : Prop) : md_b p ≤ 1 := by
  rcases Classical.em p with h | h
  · rw [md_b_t h]; exact Nat.le_refl 1
  · rw [md_b_f h]; exact Nat.zero_le 1
theorem md_b_mono {p q : Prop} (h : p → q) : md_b p ≤ md_b q := by
  rcases Classical.em p with hp | hp
  · rw [md_b_t hp, md_b_t (h hp)]; exact Nat.le_refl 1
  · rw [md_b_f hp]; exact Nat.zero_le _
theorem md_b_iff {p q : Prop} (h : p ↔ q) : md_b p = md_b q := by rw [propext h]
noncomputable def md_cnt (f : Nat → Prop) : Nat → Nat
  | 0 => 0
  | n + 1 => md_cnt f n + md_b (f n)
theorem md_cnt_s (f : Nat → Prop) (n : Nat) : md_cnt f (n + 1) = md_cnt f n + md_b (f n) := rfl
theorem md_cnt_congr {f g : Nat → Prop} {n : Nat} (h : ∀ j, j < n → (f j ↔ g j)) : md_cnt f n = md_cnt g n := by
  induction n with
  | zero => rfl
  | succ n ih => rw [md_cnt_s, md_cnt_s, ih (fun j hj => h j (by omega)), md_b_iff (h n (by omega))]
theorem md_cnt_mono {f g : Nat → Prop} {n : Nat} (h : ∀ j, j < n → f j → g j) : md_cnt f n ≤ md_cnt g n := by
  induction n with
  | zero => exact Nat.le_refl 0
  | succ n ih =>
    rw [md_cnt_s, md_cnt_s]
    exact Nat.add_le_add (ih (fun j hj => h j (by omega))) (md_b_mono (h n (by omega)))
theorem md_cnt_ins {f g : Nat → Prop} {n k : Nat} (hk : k < n) (hf : ¬ f k) (hg : g k) (h : ∀ j, j < n → j ≠ k → (g j ↔ f j)) : md_cnt g n = md_cnt f n + 1 := by
  induction n with
  | zero => exact absurd hk (by omega)
  | succ n ih =>
    rw [md_cnt_s, md_cnt_s]
    rcases Nat.lt_or_ge k n with z | z
    · rw [ih z (fun j hj => h j (by omega)), md_b_iff (h n (by omega) (by omega))]; omega
    · have e : k = n := by omega
      subst e
      rw [md_cnt_congr (f := g) (g := f) (fun j hj => h j (by omega) (by omega)), md_b_t hg, md_b_f hf]
theorem md_cnt_le (f : Nat → Prop) (n : Nat) : md_cnt f n ≤ n := by
  induction n with
  | zero => exact Nat.le_refl 0
  | succ n ih =>
    rw [md_cnt_s]
    have := md_b_le (f n)
    omega
theorem md_cnt_rem {f : Nat → Prop} {n k : Nat} (hk : k < n) (h : f k) : md_cnt f n = md_cnt (fun j => f j ∧ j ≠ k) n + 1 :=
  md_cnt_ins hk (fun z => z.2 rfl) h (fun _ _ e => ⟨fun a => ⟨a, e⟩, fun a => a.1⟩)
theorem md_cnt_lt {f : Nat → Prop} {n k : Nat} (hk : k < n) (hf : ¬ f k) : md_cnt f n < n := by
  have h := md_cnt_ins (g := fun j => f j ∨ j = k) hk hf (Or.inr rfl) (fun j _ e => ⟨fun a => a.elim id (fun z => absurd z e), Or.inl⟩)
  have h2 := md_cnt_le (fun j => f j ∨ j = k) n
  omega
theorem md_cnt_pos {f : Nat → Prop} {n k : Nat} (hk : k < n) (h : f k) : 0 < md_cnt f n := by
  rw [md_cnt_rem hk h]; omega
theorem md_cnt_0 {f : Nat → Prop} {n : Nat} (h : md_cnt f n = 0) {j : Nat} (hj : j < n) : ¬ f j := fun z => by
  have := md_cnt_pos hj z
  omega
theorem md_cnt_none {f : Nat → Prop} {n : Nat} (h : ∀ j, j < n → ¬ f j) : md_cnt f n = 0 := by
  induction n with
  | zero => rfl
  | succ n ih => rw [md_cnt_s, ih (fun j hj => h j (by omega)), md_b_f (h n (by omega))]
theorem md_cnt_full {f : Nat → Prop} {n : Nat} (h : md_cnt f n = n) {j : Nat} (hj : j < n) : f j := by
  rcases Classical.em (f j) with z | z
  · exact z
  · have := md_cnt_lt hj z
    omega
theorem md_cnt_or {f g p : Nat → Prop} {n : Nat} (h : ∀ j, j < n → (p j ↔ f j ∨ g j)) (hd : ∀ j, j < n → f j → ¬ g j) : md_cnt p n = md_cnt f n + md_cnt g n := by
  induction n with
  | zero => rfl
  | succ n ih =>
    rw [md_cnt_s, md_cnt_s, md_cnt_s, ih (fun j hj => h j (by omega)) (fun j hj => hd j (by omega)), md_b_iff (h n (by omega))]
    rcases Classical.em (f n) with z | z
    · rw [md_b_t (Or.inl z), md_b_t z, md_b_f (hd n (by omega) z)]; omega
    · rcases Classical.em (g n) with y | y
      · rw [md_b_t (Or.inr y), md_b_t y, md_b_f z]; omega
      · rw [md_b_f (fun w => w.elim z y), md_b_f y, md_b_f z]; omega
/-! ===== xor ===== -/
theorem md_x1 (x y v : Nat) : x ^^^ (y ^^^ v) = (x ^^^ y) ^^^ v := (Nat.xor_assoc x y v).symm
theorem md_x2 (x y v : Nat) : (x ^^^ v) ^^^ y = (x ^^^ y) ^^^ v := by rw [Nat.xor_assoc, Nat.xor_comm v y, ← Nat.xor_assoc]
theorem md_x4 (x v : Nat) : (x ^^^ v) ^^^ v = x := by rw [Nat.xor_assoc, Nat.xor_self, Nat.xor_zero]
theorem md_x3 (x y v : Nat) : (x ^^^ v) ^^^ (y ^^^ v) = x ^^^ y := by rw [md_x1, md_x2, md_x4]
theorem md_xlt {x y : Nat} (hx : x < 32) (hy : y < 32) : x ^^^ y < 32 := Nat.xor_lt_two_pow (n := 5) hx hy
theorem md_t1' : ∀ k : Fin 5, ∀ x : Fin 32, ∀ y : Fin 32, (2 ^ k.val ≤ x.val ∧ x.val < 2 ^ (k.val + 1) ∧ 2 ^ k.val ≤ y.val ∧ y.val < 2 ^ (k.val + 1)) → x.val ^^^ y.val < 2 ^ k.val := by decide +kernel
theorem md_t2' : ∀ k : Fin 5, ∀ x : Fin 32, ∀ y : Fin 32, (2 ^ k.val ≤ x.val ∧ x.val < 2 ^ (k.val + 1) ∧ y.val < 2 ^ k.val) → (2 ^ k.val ≤ x.val ^^^ y.val ∧ x.val ^^^ y.val < 2 ^ (k.val + 1)) := by decide +kernel
theorem md_t1 (k : Nat) (hk : k < 5) (x : Nat) (hx : x < 32) (y : Nat) (hy : y < 32) (h1 : 2 ^ k ≤ x) (h2 : x < 2 ^ (k + 1)) (h3 : 2 ^ k ≤ y) (h4 : y < 2 ^ (k + 1)) : x ^^^ y < 2 ^ k := md_t1' ⟨k, hk⟩ ⟨x, hx⟩ ⟨y, hy⟩ ⟨h1, h2, h3, h4⟩
theorem md_t2 (k : Nat) (hk : k < 5) (x : Nat) (hx : x < 32) (y : Nat) (hy : y < 32) (h1 : 2 ^ k ≤ x) (h2 : x < 2 ^ (k + 1)) (h3 : y < 2 ^ k) : 2 ^ k ≤ x ^^^ y ∧ x ^^^ y < 2 ^ (k + 1) := md_t2' ⟨k, hk⟩ ⟨x, hx⟩ ⟨y, hy⟩ ⟨h1, h2, h3⟩
theorem md_top : ∀ x, x < 32 → x ≠ 0 → ∃ k, k < 5 ∧ 2 ^ k ≤ x ∧ x < 2 ^ (k + 1) := by decide +kernel
theorem md_pw {j k : Nat} (h : j < k) : 2 ^ (j + 1) ≤ 2 ^ k := Nat.pow_le_pow_right (by omega) h
theorem md_pw5 {k : Nat} (h : k < 5) : 2 ^ (k + 1) ≤ 32 := Nat.pow_le_pow_right (n := 2) (j := 5) (by omega) h
/-! ===== subspaces of the numbers below 32, their dimension ===== -/
def md_D (L : Nat → Prop) (k : Nat) : Prop := ∃ x, L x ∧ 2 ^ k ≤ x ∧ x < 2 ^ (k + 1)
noncomputable def md_dim (L : Nat → Prop) : Nat := md_cnt (md_D L) 5
def md_sub (L : Nat → Prop) : Prop := L 0 ∧ (∀ x y, L x → L y → L (x ^^^ y)) ∧ ∀ x, L x → x < 32
def md_add (L : Nat → Prop) (v : Nat) : Nat → Prop := fun x => L x ∨ L (x ^^^ v)
theorem md_dim_mono {L M : Nat → Prop} (h : ∀ x, L x → M x) : md_dim L ≤ md_dim M :=
  md_cnt_mono (fun _ _ z => z.elim (fun x hx => ⟨x, h x hx.1, hx.2⟩))
theorem md_dim_congr {L M : Nat → Prop} (h : ∀ x, L x ↔ M x) : md_dim L = md_dim M :=
  Nat.le_antisymm (md_dim_mono (fun x => (h x).mp)) (md_dim_mono (fun x => (h x).mpr))
theorem md_add_xor {L : Nat → Prop} (hx : ∀ x y, L x → L y → L (x ^^^ y)) {v x y : Nat} (h : md_add L v x) (h' : md_add L v y) : md_add L v (x ^^^ y) := by
  rcases h with h | h
  · rcases h' with h' | h'
    · exact Or.inl (hx _ _ h h')
    · exact Or.inr (by rw [← md_x1]; exact hx _ _ h h')
  · rcases h' with h' | h'
    · exact Or.inr (by rw [← md_x2]; exact hx _ _ h h')
    · exact Or.inl (by rw [← md_x3 x y v]; exact hx _ _ h h')
theorem md_add_sub {L : Nat → Prop} (hL : md_sub L) {v : Nat} (hv : v < 32) : md_sub (md_add L v) := by
  refine ⟨Or.inl hL.1, fun x y => md_add_xor hL.2.1, fun x h => ?_⟩
  rcases h with h | h
  · exact hL.2.2 x h
  · have := md_xlt (hL.2.2 _ h) hv
    rw [md_x4] at this
    exact this
theorem md_red {L : Nat → Prop} (hL : md_sub L) {v : Nat} (hv : v < 32) (hn : ¬ L v) : ∃ k v', k < 5 ∧ 2 ^ k ≤ v' ∧ v' < 2 ^ (k + 1) ∧ L (v' ^^^ v) ∧ ¬ md_D L k := by
  have key : ∀ m v', v' ≤ m → v' < 32 → L (v' ^^^ v) → ∃ k v', k < 5 ∧ 2 ^ k ≤ v' ∧ v' < 2 ^ (k + 1) ∧ L (v' ^^^ v) ∧ ¬ md_D L k := by
    intro m
    induction m with
    | zero =>
      intro v' h0 _ h
      have e : v' = 0 := by omega
      rw [e, Nat.zero_xor] at h
      exact absurd h hn
    | succ m ih =>
      intro v' hm hv' h
      have h0 : v' ≠ 0 := by
        intro e
        rw [e, Nat.zero_xor] at h
        exact hn h
      obtain ⟨k, hk, h1, h2⟩ := md_top v' hv' h0
      rcases Classical.em (md_D L k) with z | z
      · obtain ⟨x, hx, x1, x2⟩ := z
        have hx32 := hL.2.2 x hx
        have t := md_t1 k hk v' hv' x hx32 h1 h2 x1 x2
        refine ih (v' ^^^ x) (by omega) (md_xlt hv' hx32) ?_
        rw [md_x2]
        exact hL.2.1 _ _ h hx
      · exact ⟨k, v', hk, h1, h2, h, z⟩
  exact key v v (Nat.le_refl v) hv (by rw [Nat.xor_self]; exact hL.1)
theorem md_D_add {L : Nat → Prop} (hL : md_sub L) {v v' k : Nat} (hk : k < 5) (h1 : 2 ^ k ≤ v') (h2 : v' < 2 ^ (k + 1)) (h : L (v' ^^^ v)) (hD : ¬ md_D L k) {j : Nat} (hj : j < 5) (hjk : j ≠ k) : md_D (md_add L v) j ↔ md_D L j := by
  refine ⟨fun z => ?_, fun z => z.elim (fun x hx => ⟨x, Or.inl hx.1, hx.2⟩)⟩
  obtain ⟨y, hy, y1, y2⟩ := z
  rcases hy with hy | hy
  · exact ⟨y, hy, y1, y2⟩
  · have e := hL.2.1 _ _ hy h
    rw [md_x3] at e
    have hv32 : v' < 32 := Nat.lt_of_lt_of_le h2 (md_pw5 hk)
    have hy32 : y < 32 := Nat.lt_of_lt_of_le y2 (md_pw5 hj)
    rcases Nat.lt_or_ge j k with z | z
    · have t := md_t2 k hk v' hv32 y hy32 h1 h2 (Nat.lt_of_lt_of_le y2 (md_pw z))
      rw [Nat.xor_comm] at e
      exact absurd ⟨_, e, t.1, t.2⟩ hD
    · have t := md_t2 j hj y hy32 v' hv32 y1 y2 (Nat.lt_of_lt_of_le h2 (md_pw (by omega)))
      exact ⟨_, e, t.1, t.2⟩
theorem md_dim_new {L : Nat → Prop} (hL : md_sub L) {v v' k : Nat} (hk : k < 5) (h1 : 2 ^ k ≤ v') (h2 : v' < 2 ^ (k + 1)) (h : L (v' ^^^ v)) (hD : ¬ md_D L k) : md_dim (md_add L v) = md_dim L + 1 :=
  md_cnt_ins hk hD ⟨v', Or.inr h, h1, h2⟩ (fun _ hj hjk => md_D_add hL hk h1 h2 h hD hj hjk)
theorem md_dim_out {L : Nat → Prop} (hL : md_sub L) {v : Nat} (hv : v < 32) (hn : ¬ L v) : md_dim (md_add L v) = md_dim L + 1 := by
  obtain ⟨k, v', hk, h1, h2, h, hD⟩ := md_red hL hv hn
  exact md_dim_new hL hk h1 h2 h hD
theorem md_add_in {L : Nat → Prop} (hx : ∀ x y, L x → L y → L (x ^^^ y)) {v : Nat} (hv : L v) (x : Nat) : md_add L v x ↔ L x := by
  refine ⟨fun h => ?_, Or.inl⟩
  rcases h with h | h
  · exact h
  · have := hx _ _ h hv
    rw [md_x4] at this
    exact this
theorem md_dim_in {L : Nat → Prop} (hL : md_sub L) {v : Nat} (hv : L v) : md_dim (md_add L v) = md_dim L := md_dim_congr (md_add_in hL.2.1 hv)
theorem md_dim_le5 (L : Nat → Prop) : md_dim L ≤ 5 := md_cnt_le _ 5
/-! ===== spans of the vectors V e, e in S, e below n ===== -/
def md_sp (V : Nat → Nat) (S : Nat → Prop) : Nat → Nat → Prop
  | 0 => fun x => x = 0
  | n + 1 => fun x => md_sp V S n x ∨ (S n ∧ md_sp V S n (x ^^^ V n))
theorem md_sp_0 (V : Nat → Nat) (S : Nat → Prop) (n : Nat) : md_sp V S n 0 := by
  induction n with
  | zero => exact rfl
  | succ n ih => exact Or.inl ih
theorem md_sp_t {V : Nat → Nat} {S : Nat → Prop} {n : Nat} (h : S n) (x : Nat) : md_sp V S (n + 1) x ↔ md_add (md_sp V S n) (V n) x :=
  ⟨fun z => z.elim Or.inl (fun y => Or.inr y.2), fun z => z.elim Or.inl (fun y => Or.inr ⟨h, y⟩)⟩
theorem md_sp_f {V : Nat → Nat} {S : Nat → Prop} {n : Nat} (h : ¬ S n) (x : Nat) : md_sp V S (n + 1) x ↔ md_sp V S n x :=
  ⟨fun z => z.elim id (fun y => absurd y.1 h), Or.inl⟩
theorem md_sp_xor {V : Nat → Nat} {S : Nat → Prop} {n : Nat} : ∀ x y, md_sp V S n x → md_sp V S n y → md_sp V S n (x ^^^ y) := by
  induction n with
  | zero =>
    intro x y hx hy
    have hx' : x = 0 := hx
    have hy' : y = 0 := hy
    rw [hx', hy']
    exact rfl
  | succ n ih =>
    intro x y hx hy
    rcases Classical.em (S n) with z | z
    · exact (md_sp_t z _).mpr (md_add_xor ih ((md_sp_t z _).mp hx) ((md_sp_t z _).mp hy))
    · exact (md_sp_f z _).mpr (ih _ _ ((md_sp_f z _).mp hx) ((md_sp_f z _).mp hy))
theorem md_sp_mem {V : Nat → Nat} {S : Nat → Prop} {n e : Nat} (he : e < n) (h : S e) : md_sp V S n (V e) := by
  induction n with
  | zero => exact absurd he (by omega)
  | succ n ih =>
    rcases Nat.lt_or_ge e n with z | z
    · exact Or.inl (ih z)
    · have : e = n := by omega
      subst this
      exact Or.inr ⟨h, by rw [Nat.xor_self]; exact md_sp_0 V S e⟩
theorem md_sp_min {V : Nat → Nat} {S : Nat → Prop} {n : Nat} {L : Nat → Prop} (h0 : L 0) (hx : ∀ x y, L x → L y → L (x ^^^ y)) (h : ∀ e, e < n → S e → L (V e)) : ∀ x, md_sp V S n x → L x := by
  induction n with
  | zero =>
    intro x e
    have e' : x = 0 := e
    rw [e']
    exact h0
  | succ n ih =>
    intro x z
    have ih' := ih (fun e he => h e (by omega))
    rcases z with z | z
    · exact ih' x z
    · have := hx _ _ (ih' _ z.2) (h n (by omega) z.1)
      rw [md_x4] at this
      exact this
theorem md_sp_mono {V : Nat → Nat} {S T : Nat → Prop} {n : Nat} (h : ∀ e, e < n → S e → T e) : ∀ x, md_sp V S n x → md_sp V T n x :=
  md_sp_min (md_sp_0 V T n) md_sp_xor (fun _ he hs => md_sp_mem he (h _ he hs))
theorem md_sp_trans {V : Nat → Nat} {S T : Nat → Prop} {n : Nat} (h : ∀ e, e < n → S e → md_sp V T n (V e)) : ∀ x, md_sp V S n x → md_sp V T n x :=
  md_sp_min (md_sp_0 V T n) md_sp_xor h
theorem md_sp_lt {V : Nat → Nat} {S : Nat → Prop} {n : Nat} (hV : ∀ e, e < 8 → V e < 32) (hn : n ≤ 8) : ∀ x, md_sp V S n x → x < 32 :=
  md_sp_min (L := fun x => x < 32) (by decide) (fun _ _ => md_xlt) (fun e he _ => hV e (by omega))
theorem md_sp_sub {V : Nat → Nat} {S : Nat → Prop} {n : Nat} (hV : ∀ e, e < 8 → V e < 32) (hn : n ≤ 8) : md_sub (md_sp V S n) :=
  ⟨md_sp_0 V S n, md_sp_xor, md_sp_lt hV hn⟩
theorem md_sp_one {V : Nat → Nat} {S : Nat → Prop} {n p : Nat} (h : ∀ e, e < n → S e → e = p) : ∀ x, md_sp V S n x → x = 0 ∨ x = V p := by
  refine md_sp_min (L := fun x => x = 0 ∨ x = V p) (Or.inl rfl) (fun x y hx hy => ?_) (fun e he hs => Or.inr (by rw [h e he hs]))
  rcases hx with hx | hx
  · rw [hx, Nat.zero_xor]; exact hy
  · rcases hy with hy | hy
    · rw [hy, Nat.xor_zero]; exact Or.inr hx
    · rw [hx, hy, Nat.xor_self]; exact Or.inl rfl
/-! ===== rank of a set ===== -/
noncomputable def md_rho (V : Nat → Nat) (S : Nat → Prop) : Nat := md_dim (md_sp V S 8)
theorem md_rho_le5 (V : Nat → Nat) (S : Nat → Prop) : md_rho V S ≤ 5 := md_dim_le5 _
theorem md_rho_mono {V : Nat → Nat} {S T : Nat → Prop} (h : ∀ e, e < 8 → S e → T e) : md_rho V S ≤ md_rho V T := md_dim_mono (md_sp_mono h)
theorem md_rho_congr {V : Nat → Nat} {S T : Nat → Prop} (h : ∀ e, e < 8 → (S e ↔ T e)) : md_rho V S = md_rho V T :=
  Nat.le_antisymm (md_rho_mono (fun e he => (h e he).mp)) (md_rho_mono (fun e he => (h e he).mpr))
theorem md_rho_span {V : Nat → Nat} {S T : Nat → Prop} (h : ∀ e, e < 8 → S e → md_sp V T 8 (V e)) : md_rho V S ≤ md_rho V T := md_dim_mono (md_sp_trans h)
theorem md_in_ins {V : Nat → Nat} {S T : Nat → Prop} {e : Nat} (he : e < 8) (hT : ∀ i, i < 8 → (T i ↔ S i ∨ i = e)) (x : Nat) : md_sp V T 8 x ↔ md_add (md_sp V S 8) (V e) x := by
  constructor
  · refine md_sp_min (L := md_add (md_sp V S 8) (V e)) (Or.inl (md_sp_0 V S 8)) (fun _ _ => md_add_xor md_sp_xor) (fun i hi hs => ?_) x
    rcases (hT i hi).mp hs with z | z
    · exact Or.inl (md_sp_mem hi z)
    · exact Or.inr (by rw [z, Nat.xor_self]; exact md_sp_0 V S 8)
  · intro h
    have hm : ∀ y, md_sp V S 8 y → md_sp V T 8 y := md_sp_mono (fun i hi hs => (hT i hi).mpr (Or.inl hs))
    rcases h with h | h
    · exact hm x h
    · have := md_sp_xor _ _ (hm _ h) (md_sp_mem he ((hT e he).mpr (Or.inr rfl)))
      rw [md_x4] at this
      exact this
theorem md_rho_in {V : Nat → Nat} {S T : Nat → Prop} {e : Nat} (hV : ∀ e, e < 8 → V e < 32) (he : e < 8) (hT : ∀ i, i < 8 → (T i ↔ S i ∨ i = e)) (h : md_sp V S 8 (V e)) : md_rho V T = md_rho V S :=
  (md_dim_congr (md_in_ins he hT)).trans (md_dim_in (md_sp_sub hV (by decide)) h)
theorem md_rho_out {V : Nat → Nat} {S T : Nat → Prop} {e : Nat} (hV : ∀ e, e < 8 → V e < 32) (he : e < 8) (hT : ∀ i, i < 8 → (T i ↔ S i ∨ i = e)) (h : ¬ md_sp V S 8 (V e)) : md_rho V T = md_rho V S + 1 :=
  (md_dim_congr (md_in_ins he hT)).trans (md_dim_out (md_sp_sub hV (by decide)) (hV e he) h)
theorem md_rho_iff {V : Nat → Nat} {S T : Nat → Prop} {e : Nat} (hV : ∀ e, e < 8 → V e < 32) (he : e < 8) (hT : ∀ i, i < 8 → (T i ↔ S i ∨ i = e)) : md_rho V T = md_rho V S ↔ md_sp V S 8 (V e) := by
  refine ⟨fun h => ?_, md_rho_in hV he hT⟩
  rcases Classical.em (md_sp V S 8 (V e)) with z | z
  · exact z
  · have := md_rho_out hV he hT z
    omega
theorem md_dim_sp0 (V : Nat → Nat) (S : Nat → Prop) : md_dim (md_sp V S 0) = 0 := by
  refine md_cnt_none (fun k _ z => ?_)
  obtain ⟨x, hx, h1, _⟩ := z
  have e : x = 0 := hx
  have := Nat.two_pow_pos k
  omega
theorem md_dim_sp {V : Nat → Nat} {S : Nat → Prop} (hV : ∀ e, e < 8 → V e < 32) : ∀ n, n ≤ 8 → md_dim (md_sp V S n) ≤ md_cnt S n := by
  intro n
  induction n with
  | zero => intro _; rw [md_dim_sp0]; exact Nat.zero_le _
  | succ n ih =>
    intro hn
    have ih' := ih (by omega)
    rw [md_cnt_s]
    rcases Classical.em (S n) with z | z
    · rw [md_dim_congr (md_sp_t z), md_b_t z]
      rcases Classical.em (md_sp V S n (V n)) with y | y
      · rw [md_dim_in (md_sp_sub hV (by omega)) y]; omega
      · rw [md_dim_out (md_sp_sub hV (by omega)) (hV n (by omega)) y]; omega
    · rw [md_dim_congr (md_sp_f z)]; omega
theorem md_rho_card {V : Nat → Nat} {S : Nat → Prop} (hV : ∀ e, e < 8 → V e < 32) : md_rho V S ≤ md_cnt S 8 := md_dim_sp hV 8 (by decide)
/-! ===== independent sets ===== -/
def md_ind (V : Nat → Nat) (S : Nat → Prop) : Prop := md_rho V S = md_cnt S 8
theorem md_ind_congr {V : Nat → Nat} {S T : Nat → Prop} (h : ∀ e, e < 8 → (S e ↔ T e)) : md_ind V S ↔ md_ind V T := by
  unfold md_ind
  rw [md_rho_congr h, md_cnt_congr h]
theorem md_card_ins {S T : Nat → Prop} {e : Nat} (he : e < 8) (hS : ¬ S e) (hT : ∀ i, i < 8 → (T i ↔ S i ∨ i = e)) : md_cnt T 8 = md_cnt S 8 + 1 :=
  md_cnt_ins he hS ((hT e he).mpr (Or.inr rfl)) (fun j hj n => (hT j hj).trans ⟨fun a => a.elim id (fun z => absurd z n), Or.inl⟩)
theorem md_ind_out {V : Nat → Nat} {S T : Nat → Prop} {e : Nat} (hV : ∀ e, e < 8 → V e < 32) (he : e < 8) (hS : ¬ S e) (hT : ∀ i, i < 8 → (T i ↔ S i ∨ i = e)) (h : md_ind V T) : ¬ md_sp V S 8 (V e) ∧ md_ind V S := by
  unfold md_ind at *
  have c := md_card_ins he hS hT
  have b := md_rho_card (S := S) hV
  rcases Classical.em (md_sp V S 8 (V e)) with z | z
  · have := md_rho_in hV he hT z
    omega
  · have := md_rho_out hV he hT z
    exact ⟨z, by omega⟩
theorem md_ind_add {V : Nat → Nat} {S T : Nat → Prop} {e : Nat} (hV : ∀ e, e < 8 → V e < 32) (he : e < 8) (hS : ¬ S e) (hT : ∀ i, i < 8 → (T i ↔ S i ∨ i = e)) (h : md_ind V S) (hn : ¬ md_sp V S 8 (V e)) : md_ind V T := by
  unfold md_ind at *
  rw [md_card_ins he hS hT, md_rho_out hV he hT hn, h]
theorem md_ind_in {V : Nat → Nat} {S T : Nat → Prop} {e : Nat} (hV : ∀ e, e < 8 → V e < 32) (he : e < 8) (hS : ¬ S e) (hT : ∀ i, i < 8 → (T i ↔ S i ∨ i = e)) (h : md_ind V S) (hn : ¬ md_ind V T) : md_sp V S 8 (V e) := by
  rcases Classical.em (md_sp V S 8 (V e)) with z | z
  · exact z
  · exact absurd (md_ind_add hV he hS hT h z) hn
theorem md_ind_nz {V : Nat → Nat} {T : Nat → Prop} {e : Nat} (hV : ∀ e, e < 8 → V e < 32) (he : e < 8) (hT : T e) (h : md_ind V T) : V e ≠ 0 := by
  have t := md_ind_out (S := fun i => T i ∧ i ≠ e) hV he (fun z => z.2 rfl) (fun i _ => ⟨fun a => (Classical.em (i = e)).elim Or.inr (fun n => Or.inl ⟨a, n⟩), fun a => a.elim (fun b => b.1) (fun b => by rw [b]; exact hT)⟩) h
  intro z
  rw [z] at t
  exact t.1 (md_sp_0 V _ 8)
/-! ===== rows of an elimination ===== -/
def md_ech (p : Nat → Nat) (L : Nat → Prop) : Prop := ∀ k, k < 5 → (p k = 0 ∧ ¬ md_D L k) ∨ (L (p k) ∧ 2 ^ k ≤ p k ∧ p k < 2 ^ (k + 1))
def md_up {α : Type} (p : Nat → α) (k : Nat) (v : α) : Nat → α := fun j => if j = k then v else p j
theorem md_up_s {α : Type} (p : Nat → α) (k : Nat) (v : α) : md_up p k v k = v := if_pos rfl
theorem md_up_n {α : Type} (p : Nat → α) {k j : Nat} (v : α) (h : j ≠ k) : md_up p k v j = p j := if_neg h
theorem md_ech_new {p : Nat → Nat} {L : Nat → Prop} (hL : md_sub L) (hp : md_ech p L) {v v' k : Nat} (hk : k < 5) (h0 : p k = 0) (h1 : 2 ^ k ≤ v') (h2 : v' < 2 ^ (k + 1)) (h : L (v' ^^^ v)) : md_ech (md_up p k v') (md_add L v) ∧ md_dim (md_add L v) = md_dim L + 1 := by
  have hD : ¬ md_D L k := by
    rcases hp k hk with z | z
    · exact z.2
    · have := Nat.two_pow_pos k
      omega
  refine ⟨fun j hj => ?_, md_dim_new hL hk h1 h2 h hD⟩
  rcases Classical.em (j = k) with z | z
  · subst z
    rw [md_up_s]
    exact Or.inr ⟨Or.inr h, h1, h2⟩
  · rw [md_up_n _ _ z]
    rcases hp j hj with y | y
    · exact Or.inl ⟨y.1, fun w => y.2 ((md_D_add hL hk h1 h2 h hD hj z).mp w)⟩
    · exact Or.inr ⟨Or.inl y.1, y.2⟩
theorem md_ech_0 (V : Nat → Nat) (S : Nat → Prop) : md_ech (fun _ => 0) (md_sp V S 0) := fun k _ =>
  Or.inl ⟨rfl, fun z => by
    obtain ⟨x, hx, h1, _⟩ := z
    have e : x = 0 := hx
    have := Nat.two_pow_pos k
    omega⟩
theorem md_ech_congr {p : Nat → Nat} {L M : Nat → Prop} (h : ∀ x, L x ↔ M x) (hp : md_ech p L) : md_ech p M := by
  have e : L = M := funext (fun x => propext (h x))
  rw [← e]
  exact hp
end
section
/-! ===== Int32 by its bits (rows of kit/laws/BITS.to-paste turned) ===== -/
def md_bt (x : Int32) (i : Nat) : Bool := x.toBitVec.getLsbD i
theorem md_bt_ext {x y : Int32} (h : ∀ i, i < 32 → md_bt x i = md_bt y i) : x = y := Int32.toBitVec_inj.mp (BitVec.eq_of_getLsbD_eq (fun i hi => h i hi))
theorem md_bt_or (x y : Int32) (i : Nat) : md_bt (x ||| y) i = (md_bt x i || md_bt y i) := by unfold md_bt; rw [Int32.toBitVec_or, BitVec.getLsbD_or]
theorem md_bt_and (x y : Int32) (i : Nat) : md_bt (x &&& y) i = (md_bt x i && md_bt y i) := by unfold md_bt; rw [Int32.toBitVec_and, BitVec.getLsbD_and]
theorem md_bt_xor (x y : Int32) (i : Nat) : md_bt (x ^^^ y) i = (md_bt x i ^^ md_bt y i) := by unfold md_bt; rw [Int32.toBitVec_xor, BitVec.getLsbD_xor]
theorem md_bt_m1 : ∀ i, i < 32 → md_bt (-1) i = true := by decide +kernel
theorem md_bt_255 : ∀ i, i < 32 → md_bt 255 i = decide (i < 8) := by decide +kernel
theorem md_bt_one : ∀ i, i < 32 → md_bt 1 i = decide (i = 0) := by decide +kernel
theorem md_bt_0 (i : Nat) : md_bt 0 i = false := BitVec.getLsbD_zero
theorem md_bt_1 : ∀ e, e < 32 → ∀ i, i < 32 → md_bt ((1 : Int32) <<< (nI e &&& 31)) i = decide (i = e) := by decide +kernel
theorem md_su : ∀ n, n < 32 → (((nI n).toUInt32 &&& Int32.toUInt32 31).toBitVec % 32).toNat = n := by decide +kernel
theorem md_bt_ushr (n : Nat) (hn : n < 32) (x : Int32) (i : Nat) : md_bt ((x.toUInt32 >>> ((nI n).toUInt32 &&& Int32.toUInt32 31)).toInt32) i = md_bt x (n + i) := by
  show (x.toUInt32 >>> ((nI n).toUInt32 &&& Int32.toUInt32 31)).toBitVec.getLsbD i = x.toUInt32.toBitVec.getLsbD (n + i)
  rw [UInt32.toBitVec_shiftRight]
  show (x.toUInt32.toBitVec >>> (((nI n).toUInt32 &&& Int32.toUInt32 31).toBitVec % 32).toNat).getLsbD i = _
  rw [md_su n hn, BitVec.getLsbD_ushiftRight]
theorem md_nx (a b : Nat) : nI a ^^^ nI b = nI (a ^^^ b) := by
  apply Int32.toBitVec_inj.1
  show BitVec.ofNat 32 a ^^^ BitVec.ofNat 32 b = BitVec.ofNat 32 (a ^^^ b)
  apply BitVec.eq_of_getLsbD_eq
  intro i hi
  simp [hi]
/-! ===== an int as a set ===== -/
def md_M (s : Int32) (i : Nat) : Prop := md_bt s i = true
theorem md_M_ext {x y : Int32} (h : ∀ i, i < 32 → (md_M x i ↔ md_M y i)) : x = y := md_bt_ext (fun i hi => Bool.eq_iff_iff.mpr (h i hi))
theorem md_M_or (x y : Int32) (i : Nat) : md_M (x ||| y) i ↔ md_M x i ∨ md_M y i := by
  unfold md_M
  rw [md_bt_or, Bool.or_eq_true]
theorem md_M_and (x y : Int32) (i : Nat) : md_M (x &&& y) i ↔ md_M x i ∧ md_M y i := by
  unfold md_M
  rw [md_bt_and, Bool.and_eq_true]
theorem md_M_not (x : Int32) {i : Nat} (hi : i < 32) : md_M (x ^^^ (-1)) i ↔ ¬ md_M x i := by
  unfold md_M
  rw [md_bt_xor, md_bt_m1 i hi]
  cases md_bt x i <;> decide
theorem md_M_0 (i : Nat) : ¬ md_M 0 i := by
  unfold md_M
  rw [md_bt_0]
  decide
theorem md_M_255 {i : Nat} (hi : i < 32) : md_M 255 i ↔ i < 8 := by
  unfold md_M
  rw [md_bt_255 i hi, decide_eq_true_iff]
theorem md_M_1 {e i : Nat} (he : e < 32) (hi : i < 32) : md_M ((1 : Int32) <<< (nI e &&& 31)) i ↔ i = e := by
  unfold md_M
  rw [md_bt_1 e he i hi, decide_eq_true_iff]
/-- a set and one element more -/
theorem md_M_ins (s : Int32) {e i : Nat} (he : e < 32) (hi : i < 32) : md_M (s ||| ((1 : Int32) <<< (nI e &&& 31))) i ↔ md_M s i ∨ i = e := by
  rw [md_M_or, md_M_1 he hi]
/-- a set without an element -/
theorem md_M_del (s : Int32) {e i : Nat} (he : e < 32) (hi : i < 32) : md_M (s &&& (((1 : Int32) <<< (nI e &&& 31)) ^^^ (-1))) i ↔ md_M s i ∧ i ≠ e := by
  rw [md_M_and, md_M_not _ hi, md_M_1 he hi]
theorem md_one (y : Int32) : (y &&& 1) = nI (md_b (md_M y 0)) := by
  rcases Classical.em (md_M y 0) with z | z
  · rw [md_b_t z]
    refine md_bt_ext (fun i hi => ?_)
    show md_bt (y &&& 1) i = md_bt 1 i
    rw [md_bt_and, md_bt_one i hi]
    rcases Classical.em (i = 0) with e | e
    · subst e
      have z' : md_bt y 0 = true := z
      rw [z']
      rfl
    · rw [decide_eq_false e, Bool.and_false]
  · rw [md_b_f z]
    refine md_bt_ext (fun i hi => ?_)
    show md_bt (y &&& 1) i = md_bt 0 i
    rw [md_bt_and, md_bt_one i hi, md_bt_0]
    rcases Classical.em (i = 0) with e | e
    · subst e
      have z' : md_bt y 0 = false := Bool.eq_false_iff.mpr z
      rw [z']
      rfl
    · rw [decide_eq_false e, Bool.and_false]
theorem md_bit (s : Int32) {e : Nat} (he : e < 32) : ((s.toUInt32 >>> ((nI e).toUInt32 &&& Int32.toUInt32 31)).toInt32 &&& 1) = nI (md_b (md_M s e)) := by
  rw [md_one]
  unfold md_M
  rw [md_bt_ushr e he]
  rfl
theorem md_tst (s : Int32) {e : Nat} (he : e < 32) : ((s.toUInt32 >>> ((nI e).toUInt32 &&& Int32.toUInt32 31)).toInt32 &&& 1) = 0 ↔ ¬ md_M s e := by
  rw [md_bit s he]
  rcases Classical.em (md_M s e) with z | z
  · rw [md_b_t z]
    exact ⟨fun h => absurd h (by decide), fun h => absurd z h⟩
  · rw [md_b_f z]
    exact ⟨fun _ => z, fun _ => rfl⟩
theorem md_tst5 : ∀ k, k < 5 → ∀ v, v < 32 → v < 2 ^ (k + 1) → ((((nI v).toUInt32 >>> ((nI k).toUInt32 &&& Int32.toUInt32 31)).toInt32 &&& 1) = 0 ↔ v < 2 ^ k) := by decide +kernel
end
section
/-! ===== eliminate ===== -/
theorem md_elimW {post : Int32 → St1 → Prop} {q : Int32} {a1 a2 a3 a4 a5 a6 a7 a8 a9 a10 a11 : Nat → Int32} {p : Nat → Nat} {L : Nat → Prop} {v : Nat} (hL : md_sub L) (hp : md_ech p L) (ha : ∀ k, k < 5 → a4 k = nI (p k))
    (H0 : L v → post 0 (q, a1, a2, a3, a4, a5, a6, a7, a8, a9, a10, a11)) (H1 : ∀ k v', k < 5 → p k = 0 → 2 ^ k ≤ v' → v' < 2 ^ (k + 1) → L (v' ^^^ v) → post 1 (q, a1, a2, a3, upd a4 k (nI v'), a5, a6, a7, a8, a9, a10, a11)) :
    ∀ k n v', k ≤ 5 → k < n → v' < 2 ^ k → L (v' ^^^ v) → wX_eliminate_4 post q a1 a2 a3 a4 a5 a6 a7 a8 a9 a10 a11 n (nI v') (nI k + (-1)) := by
  intro k
  induction k with
  | zero =>
    intro n v' _ hn hv h
    obtain ⟨m, rfl⟩ : ∃ m, n = m + 1 := ⟨n - 1, by omega⟩
    have e : v' = 0 := by
      have : (2 : Nat) ^ 0 = 1 := rfl
      omega
    rw [e, Nat.zero_xor] at h
    exact br_t (by decide) (H0 h)
  | succ k ih =>
    intro n v' hk hn hv h
    obtain ⟨m, rfl⟩ : ∃ m, n = m + 1 := ⟨n - 1, by omega⟩
    have hv32 : v' < 32 := Nat.lt_of_lt_of_le hv (md_pw5 (by omega))
    rw [pk_m1 k]
    refine br_f (nI_pos (by omega)) ?_
    have hb := md_tst5 k (by omega) v' hv32 hv
    rcases Nat.lt_or_ge v' (2 ^ k) with z | z
    · exact br_t (hb.mpr z) (nm_e (ih m v' (by omega) (by omega) z h))
    · refine br_f (fun w => absurd (hb.mp w) (by omega)) ⟨vp_in_nI (by omega) (by omega), ?_⟩
      rw [nI_clamp (show k < 2 ^ 31 by omega)]
      have hpk := hp k (by omega)
      rcases Classical.em (p k = 0) with y | y
      · refine br_t (by rw [ha k (by omega), y]; rfl) ⟨vp_in_nI (by omega) (by omega), nm_e ?_⟩
        exact H1 k v' (by omega) y z hv h
      · have hpk' : L (p k) ∧ 2 ^ k ≤ p k ∧ p k < 2 ^ (k + 1) := hpk.elim (fun w => absurd w.1 y) id
        have hpk32 : p k < 32 := hL.2.2 _ hpk'.1
        refine br_f (by rw [ha k (by omega)]; exact nI_ne0 (by omega) (by omega)) ⟨vp_in_nI (by omega) (by omega), ?_⟩
        refine nm_r (e' := nI (v' ^^^ p k)) (by rw [ha k (by omega), md_nx]) (nm_e ?_)
        refine ih m (v' ^^^ p k) (by omega) (by omega) (md_t1 k (by omega) v' hv32 (p k) hpk32 z hv hpk'.2.1 hpk'.2.2) ?_
        rw [md_x2]
        exact hL.2.1 _ _ h hpk'.1
theorem md_elim {post : Int32 → St1 → Prop} {q : Int32} {a1 a2 a3 a4 a5 a6 a7 a8 a9 a10 a11 : Nat → Int32} {p : Nat → Nat} {L : Nat → Prop} {v : Nat} (hL : md_sub L) (hp : md_ech p L) (ha : ∀ k, k < 5 → a4 k = nI (p k)) (hv : v < 32)
    (H0 : L v → post 0 (q, a1, a2, a3, a4, a5, a6, a7, a8, a9, a10, a11)) (H1 : ∀ k v', k < 5 → p k = 0 → 2 ^ k ≤ v' → v' < 2 ^ (k + 1) → L (v' ^^^ v) → post 1 (q, a1, a2, a3, upd a4 k (nI v'), a5, a6, a7, a8, a9, a10, a11)) :
    wpX_eliminate post (q, a1, a2, a3, a4, a5, a6, a7, a8, a9, a10, a11) (nI v) := by
  have t := md_elimW (v := v) hL hp ha H0 H1 5 6 v (by omega) (by omega) hv (by rw [Nat.xor_self]; exact hL.1)
  rw [show nI 5 + (-1) = (4 : Int32) from by decide] at t
  exact ⟨6, t⟩
/-! ===== rank ===== -/
theorem md_rk24 {post : Int32 → St1 → Prop} {q : Int32} {a1 a2 a3 a5 a6 a7 a8 a9 a10 a11 : Nat → Int32} {V : Nat → Nat} {s : Int32} (hV : ∀ e, e < 8 → V e < 32) (h1 : ∀ e, e < 8 → a1 e = nI (V e))
    (H : ∀ b4, post (nI (md_rho V (md_M s))) (q, a1, a2, a3, b4, a5, a6, a7, a8, a9, a10, a11)) :
    ∀ n i a4 p, i ≤ 8 → 8 - i < n → (∀ k, k < 5 → a4 k = nI (p k)) → md_ech p (md_sp V (md_M s) i) → wX_rank_24 post s n (nI (md_dim (md_sp V (md_M s) i))) (nI i) q a1 a2 a3 a4 a5 a6 a7 a8 a9 a10 a11 := by
  intro n
  induction n with
  | zero => intro i a4 p _ h; omega
  | succ n ih =>
    intro i a4 p hi hn ha hp
    rcases Nat.lt_or_ge i 8 with z | z
    · refine br_f (nI_ge (b := 8) z (by decide)) ?_
      have hL : md_sub (md_sp V (md_M s) i) := md_sp_sub hV hi
      rcases Classical.em (md_M s i) with y | y
      · refine br_f (fun w => absurd y ((md_tst s (by omega)).mp w)) ⟨vp_in_nI z (by decide), ?_⟩
        rw [nI_clamp (show i < 2 ^ 31 by omega), h1 i z]
        refine md_elim hL hp ha (hV i z) (fun hin => ?_) (fun k v' hk h0 e1 e2 hl => ?_)
        · refine br_t rfl (nm_r (e' := nI (md_dim (md_sp V (md_M s) (i + 1)))) ?_ (nm_r (nI_1 i) (ih (i + 1) a4 p (by omega) (by omega) ha ?_)))
          · rw [md_dim_congr (md_sp_t y), md_dim_in hL hin]
            exact Int32.add_zero _
          · exact md_ech_congr (fun x => ((md_sp_t y x).trans (md_add_in hL.2.1 hin x)).symm) hp
        · have t := md_ech_new hL hp hk h0 e1 e2 hl
          refine br_f (by decide) (nm_r (e' := nI (md_dim (md_sp V (md_M s) (i + 1)))) ?_ (nm_r (nI_1 i) (ih (i + 1) _ (md_up p k v') (by omega) (by omega) ?_ ?_)))
          · rw [md_dim_congr (md_sp_t y), t.2]
            exact nI_1 _
          · intro j hj
            rcases Classical.em (j = k) with w | w
            · rw [w, pk_us, md_up_s]
            · rw [pk_un w, md_up_n _ _ w]
              exact ha j hj
          · exact md_ech_congr (fun x => (md_sp_t y x).symm) t.1
      · refine br_t ((md_tst s (by omega)).mpr y) (nm_r (nI_1 i) ?_)
        rw [← md_dim_congr (md_sp_f y)]
        exact ih (i + 1) a4 p (by omega) (by omega) ha (md_ech_congr (fun x => (md_sp_f y x).symm) hp)
    · have e : i = 8 := by omega
      subst e
      exact br_t (nI_le (a := 8) (by omega) (by decide)) (H a4)
theorem md_rk2 {post : Int32 → St1 → Prop} {q : Int32} {a1 a2 a3 a5 a6 a7 a8 a9 a10 a11 : Nat → Int32} {V : Nat → Nat} {s : Int32} (hV : ∀ e, e < 8 → V e < 32) (h1 : ∀ e, e < 8 → a1 e = nI (V e))
    (H : ∀ b4, post (nI (md_rho V (md_M s))) (q, a1, a2, a3, b4, a5, a6, a7, a8, a9, a10, a11)) :
    ∀ n i a4, i ≤ 5 → 5 - i < n → (∀ k, k < i → a4 k = nI 0) → wX_rank_2 post s q n (nI i) a1 a2 a3 a4 a5 a6 a7 a8 a9 a10 a11 := by
  intro n
  induction n with
  | zero => intro i a4 _ h; omega
  | succ n ih =>
    intro i a4 hi hn ha
    rcases Nat.lt_or_ge i 5 with z | z
    · refine br_f (nI_ge (b := 5) z (by decide)) ⟨vp_in_nI z (by decide), nm_e (nm_r (nI_1 i) (ih (i + 1) _ (by omega) (by omega) ?_))⟩
      intro k hk
      rw [nI_clamp (show i < 2 ^ 31 by omega)]
      rcases Classical.em (k = i) with w | w
      · rw [w, pk_us]; rfl
      · rw [pk_un w]
        exact ha k (by omega)
    · have e : i = 5 := by omega
      subst e
      have t := md_rk24 (a2 := a2) (a3 := a3) (a5 := a5) (a6 := a6) (a7 := a7) (a8 := a8) (a9 := a9) (a10 := a10) (a11 := a11) hV h1 H 9 0 a4 (fun _ => 0) (by omega) (by omega) ha (md_ech_0 V (md_M s))
      rw [md_dim_sp0] at t
      exact br_t (nI_le (a := 5) (by omega) (by decide)) ⟨9, t⟩
theorem md_rank {post : Int32 → St1 → Prop} {q : Int32} {a1 a2 a3 a4 a5 a6 a7 a8 a9 a10 a11 : Nat → Int32} {V : Nat → Nat} {s : Int32} (hV : ∀ e, e < 8 → V e < 32) (h1 : ∀ e, e < 8 → a1 e = nI (V e))
    (H : ∀ b4, post (nI (md_rho V (md_M s))) (q, a1, a2, a3, b4, a5, a6, a7, a8, a9, a10, a11)) : wpX_rank post (q, a1, a2, a3, a4, a5, a6, a7, a8, a9, a10, a11) s :=
  ⟨6, md_rk2 hV h1 H 6 0 a4 (by omega) (by omega) (fun k hk => absurd hk (by omega))⟩
/-! ===== size, isIndependent, members ===== -/
theorem md_sz4 {post : Int32 → Prop} {s : Int32} (H : post (nI (md_cnt (md_M s) 8))) :
    ∀ n i, i ≤ 8 → 8 - i < n → wX_size_4 post s n (nI (md_cnt (md_M s) i)) (nI i) := by
  intro n
  induction n with
  | zero => intro i _ h; omega
  | succ n ih =>
    intro i hi hn
    rcases Nat.lt_or_ge i 8 with z | z
    · refine br_f (nI_ge (b := 8) z (by decide)) (nm_r (e' := nI (md_cnt (md_M s) (i + 1))) ?_ (nm_r (nI_1 i) (ih (i + 1) (by omega) (by omega))))
      rw [md_bit s (by omega), nI_add]
      rfl
    · have e : i = 8 := by omega
      subst e
      exact br_t (nI_le (a := 8) (by omega) (by decide)) H
theorem md_size {post : Int32 → Prop} {s : Int32} (H : post (nI (md_cnt (md_M s) 8))) : wpX_size post () s :=
  ⟨9, md_sz4 H 9 0 (by omega) (by omega)⟩
theorem md_isInd {post : Int32 → St1 → Prop} {q : Int32} {a1 a2 a3 a4 a5 a6 a7 a8 a9 a10 a11 : Nat → Int32} {V : Nat → Nat} {s : Int32} (hV : ∀ e, e < 8 → V e < 32) (h1 : ∀ e, e < 8 → a1 e = nI (V e))
    (H1 : md_ind V (md_M s) → ∀ b4, post 1 (q, a1, a2, a3, b4, a5, a6, a7, a8, a9, a10, a11)) (H0 : ¬ md_ind V (md_M s) → ∀ b4, post 0 (q, a1, a2, a3, b4, a5, a6, a7, a8, a9, a10, a11)) : wpX_isIndependent post (q, a1, a2, a3, a4, a5, a6, a7, a8, a9, a10, a11) s := by
  have r5 := md_rho_le5 V (md_M s)
  have c8 := md_cnt_le (md_M s) 8
  unfold wpX_isIndependent
  refine md_rank hV h1 (fun b4 => ?_)
  refine md_size ?_
  exact pk_eq (md_rho V (md_M s)) (md_cnt (md_M s) 8) (fun e => H1 e b4) (fun e => H0 e b4)
theorem md_mem4 {post : Int32 → Prop} {q : Int32} {a1 a2 a3 a4 a5 a6 a7 a8 a9 a10 a11 : Nat → Int32} {k : Int32} (H : ∀ r, (∀ j, j < 32 → (md_M r j ↔ j < 8 ∧ a5 j = k)) → post r) :
    ∀ n i r, i ≤ 8 → 8 - i < n → (∀ j, j < 32 → (md_M r j ↔ j < i ∧ a5 j = k)) → wX_members_4 post k q a1 a2 a3 a4 a5 a6 a7 a8 a9 a10 a11 n r (nI i) := by
  intro n
  induction n with
  | zero => intro i r _ h; omega
  | succ n ih =>
    intro i r hi hn hr
    rcases Nat.lt_or_ge i 8 with z | z
    · refine br_f (nI_ge (b := 8) z (by decide)) ⟨vp_in_nI z (by decide), ?_⟩
      rw [nI_clamp (show i < 2 ^ 31 by omega)]
      refine br_c (fun e => nm_e (nm_r (nI_1 i) (ih (i + 1) _ (by omega) (by omega) ?_))) (fun e => nm_e (nm_r (nI_1 i) (ih (i + 1) _ (by omega) (by omega) ?_)))
      · intro j hj
        rw [md_M_ins r (by omega) hj, hr j hj]
        constructor
        · intro h
          rcases h with h | h
          · exact ⟨by omega, h.2⟩
          · subst h
            exact ⟨by omega, e⟩
        · intro h
          rcases Nat.lt_or_ge j i with w | w
          · exact Or.inl ⟨w, h.2⟩
          · exact Or.inr (by omega)
      · intro j hj
        rw [md_M_or, hr j hj]
        constructor
        · intro h
          rcases h with h | h
          · exact ⟨by omega, h.2⟩
          · exact absurd h (md_M_0 j)
        · intro h
          rcases Nat.lt_or_ge j i with w | w
          · exact Or.inl ⟨w, h.2⟩
          · have : j = i := by omega
            subst this
            exact absurd h.2 e
    · have e : i = 8 := by omega
      subst e
      exact br_t (nI_le (a := 8) (by omega) (by decide)) (H r hr)
theorem md_members {post : Int32 → Prop} {q : Int32} {a1 a2 a3 a4 a5 a6 a7 a8 a9 a10 a11 : Nat → Int32} {k : Int32} (H : ∀ r, (∀ j, j < 32 → (md_M r j ↔ j < 8 ∧ a5 j = k)) → post r) : wpX_members post (q, a1, a2, a3, a4, a5, a6, a7, a8, a9, a10, a11) k :=
  ⟨9, md_mem4 H 9 0 0 (by omega) (by omega) (fun j _ => ⟨fun h => absurd h (md_M_0 j), fun h => absurd h.1 (by omega)⟩)⟩
/-! ===== closure ===== -/
/-- c is the closure of the set s -/
def md_clo (V : Nat → Nat) (s c : Int32) : Prop := ∀ j, j < 32 → (md_M c j ↔ j < 8 ∧ md_sp V (md_M s) 8 (V j))
theorem md_cl18 {post : Int32 → St1 → Prop} {q : Int32} {a1 a2 a3 a5 a6 a7 a8 a9 a10 a11 : Nat → Int32} {V : Nat → Nat} {s : Int32} (hV : ∀ e, e < 8 → V e < 32) (h1 : ∀ e, e < 8 → a1 e = nI (V e))
    (hs : ∀ j, j < 32 → md_M s j → j < 8) (H : ∀ c b4, md_clo V s c → post c (q, a1, a2, a3, b4, a5, a6, a7, a8, a9, a10, a11)) :
    ∀ n i c a4, i ≤ 8 → 8 - i < n → (∀ j, j < 32 → (md_M c j ↔ md_M s j ∨ (j < i ∧ md_sp V (md_M s) 8 (V j)))) → wX_closure_18 post s (nI (md_rho V (md_M s))) n c (nI i) q a1 a2 a3 a4 a5 a6 a7 a8 a9 a10 a11 := by
  intro n
  induction n with
  | zero => intro i c a4 _ h; omega
  | succ n ih =>
    intro i c a4 hi hn hc
    rcases Nat.lt_or_ge i 8 with z | z
    · refine br_f (nI_ge (b := 8) z (by decide)) ?_
      refine md_rank hV h1 (fun b4 => ?_)
      have r5 := md_rho_le5 V (md_M s)
      have r5' := md_rho_le5 V (md_M (s ||| ((1 : Int32) <<< (nI i &&& 31))))
      have t := md_rho_iff (S := md_M s) (T := md_M (s ||| ((1 : Int32) <<< (nI i &&& 31)))) hV z (fun j hj => md_M_ins s (by omega) (by omega))
      refine pk_eq (md_rho V (md_M (s ||| ((1 : Int32) <<< (nI i &&& 31))))) (md_rho V (md_M s)) (fun e => nm_e (nm_r (nI_1 i) (ih (i + 1) _ b4 (by omega) (by omega) ?_))) (fun e => nm_e (nm_r (nI_1 i) (ih (i + 1) _ b4 (by omega) (by omega) ?_)))
      · have t' := t.mp e
        intro j hj
        rw [md_M_ins c (by omega) hj, hc j hj]
        constructor
        · intro h
          rcases h with h | h
          · exact h.elim Or.inl (fun w => Or.inr ⟨by omega, w.2⟩)
          · subst h
            exact Or.inr ⟨by omega, t'⟩
        · intro h
          rcases h with h | h
          · exact Or.inl (Or.inl h)
          · rcases Nat.lt_or_ge j i with w | w
            · exact Or.inl (Or.inr ⟨w, h.2⟩)
            · exact Or.inr (by omega)
      · intro j hj
        rw [md_M_or, hc j hj]
        constructor
        · intro h
          rcases h with h | h
          · exact h.elim Or.inl (fun w => Or.inr ⟨by omega, w.2⟩)
          · exact absurd h (md_M_0 j)
        · intro h
          rcases h with h | h
          · exact Or.inl (Or.inl h)
          · rcases Nat.lt_or_ge j i with w | w
            · exact Or.inl (Or.inr ⟨w, h.2⟩)
            · have : j = i := by omega
              subst this
              exact absurd (t.mpr h.2) e
    · have e : i = 8 := by omega
      subst e
      refine br_t (nI_le (a := 8) (by omega) (by decide)) (H c a4 (fun j hj => (hc j hj).trans ⟨fun h => ?_, Or.inr⟩))
      exact h.elim (fun w => ⟨hs j hj w, md_sp_mem (hs j hj w) w⟩) id
theorem md_closure {post : Int32 → St1 → Prop} {q : Int32} {a1 a2 a3 a4 a5 a6 a7 a8 a9 a10 a11 : Nat → Int32} {V : Nat → Nat} {s : Int32} (hV : ∀ e, e < 8 → V e < 32) (h1 : ∀ e, e < 8 → a1 e = nI (V e))
    (H : ∀ c b4, md_clo V (s &&& 255) c → post c (q, a1, a2, a3, b4, a5, a6, a7, a8, a9, a10, a11)) : wpX_closure post (q, a1, a2, a3, a4, a5, a6, a7, a8, a9, a10, a11) s := by
  unfold wpX_closure
  refine nm_e ?_
  refine md_rank hV h1 (fun b4 => ?_)
  refine ⟨9, ?_⟩
  exact md_cl18 hV h1 (fun j hj h => (md_M_255 hj).mp ((md_M_and _ _ j).mp h).2) H 9 0 (s &&& 255) b4 (by omega) (by omega) (fun j _ => ⟨Or.inl, fun h => h.elim id (fun w => absurd w.1 (by omega))⟩)
/-- the law's three checks of closures -/
theorem md_clo_sub {V : Nat → Nat} {s c : Int32} (h : md_clo V (s &&& 255) c) : (c &&& s) &&& 255 = s &&& 255 := by
  refine md_M_ext (fun i hi => ?_)
  rw [md_M_and, md_M_and, md_M_and, md_M_255 hi]
  refine ⟨fun w => ⟨w.1.2, w.2⟩, fun w => ⟨⟨(h i hi).mpr ⟨w.2, md_sp_mem w.2 ?_⟩, w.1⟩, w.2⟩⟩
  exact (md_M_and _ _ i).mpr ⟨w.1, (md_M_255 hi).mpr w.2⟩
theorem md_clo_span {V : Nat → Nat} {s c : Int32} (h : md_clo V (s &&& 255) c) (x : Nat) : md_sp V (md_M c) 8 x ↔ md_sp V (md_M (s &&& 255)) 8 x := by
  constructor
  · exact md_sp_trans (fun e he hs => ((h e (by omega)).mp hs).2) x
  · exact md_sp_mono (fun e he hs => (h e (by omega)).mpr ⟨he, md_sp_mem he hs⟩) x
theorem md_clo_rho {V : Nat → Nat} {s c : Int32} (h : md_clo V (s &&& 255) c) : md_rho V (md_M c) = md_rho V (md_M s) := by
  have e : md_rho V (md_M c) = md_rho V (md_M (s &&& 255)) := md_dim_congr (md_clo_span h)
  rw [e]
  refine md_rho_congr (fun i hi => ?_)
  rw [md_M_and, md_M_255 (by omega)]
  exact ⟨fun w => w.1, fun w => ⟨w, hi⟩⟩
theorem md_clo_clo {V : Nat → Nat} {s c d : Int32} (h : md_clo V (s &&& 255) c) (hd : md_clo V (c &&& 255) d) : d = c := by
  refine md_M_ext (fun i hi => ?_)
  have e : c &&& 255 = c := by
    refine md_M_ext (fun j hj => ?_)
    rw [md_M_and, md_M_255 hj]
    exact ⟨fun w => w.1, fun w => ⟨w, ((h j hj).mp w).1⟩⟩
  rw [e] at hd
  rw [hd i hi, h i hi, md_clo_span h]
end
section
/-! ===== the polynomial: the pure value ===== -/
def md_lp (V : Nat → Nat) (e : Nat) (s : Int32) : Prop := md_rho V (md_M (s ||| ((1 : Int32) <<< (nI e &&& 31)))) = md_rho V (md_M s)
def md_bh (e : Nat) : Int32 := 255 &&& ((((1 : Int32) <<< ((nI e + 1) &&& 31)) - 1) ^^^ (-1))
def md_br (V : Nat → Nat) (e : Nat) (s : Int32) : Prop := md_rho V (md_M (s ||| md_bh e)) < md_rho V (md_M ((s ||| md_bh e) ||| ((1 : Int32) <<< (nI e &&& 31))))
noncomputable def md_T (V : Nat → Nat) (x y : Int32) : Nat → Int32 → Int32
  | 0 => fun _ => 1
  | m + 1 => fun s => @ite Int32 (md_lp V (7 - m) s) (Classical.propDecidable _) (y * md_T V x y m s)
      (@ite Int32 (md_br V (7 - m) s) (Classical.propDecidable _) (x * md_T V x y m (s ||| ((1 : Int32) <<< (nI (7 - m) &&& 31))))
        (md_T V x y m s + md_T V x y m (s ||| ((1 : Int32) <<< (nI (7 - m) &&& 31)))))
theorem md_T_l {V : Nat → Nat} {x y : Int32} {e : Nat} {s : Int32} (he : e < 8) (h : md_lp V e s) : md_T V x y (8 - e) s = y * md_T V x y (8 - (e + 1)) s := by
  obtain ⟨m, hm⟩ : ∃ m, 8 - e = m + 1 := ⟨8 - (e + 1), by omega⟩
  have e1 : 8 - (e + 1) = m := by omega
  have e2 : 7 - m = e := by omega
  rw [hm, e1]
  rw [← e2] at h
  exact if_pos h
theorem md_T_b {V : Nat → Nat} {x y : Int32} {e : Nat} {s : Int32} (he : e < 8) (h : ¬ md_lp V e s) (hb : md_br V e s) : md_T V x y (8 - e) s = x * md_T V x y (8 - (e + 1)) (s ||| ((1 : Int32) <<< (nI e &&& 31))) := by
  obtain ⟨m, hm⟩ : ∃ m, 8 - e = m + 1 := ⟨8 - (e + 1), by omega⟩
  have e1 : 8 - (e + 1) = m := by omega
  have e2 : 7 - m = e := by omega
  rw [hm, e1]
  rw [← e2] at h hb ⊢
  exact (if_neg h).trans (if_pos hb)
theorem md_T_n {V : Nat → Nat} {x y : Int32} {e : Nat} {s : Int32} (he : e < 8) (h : ¬ md_lp V e s) (hb : ¬ md_br V e s) : md_T V x y (8 - e) s = md_T V x y (8 - (e + 1)) s + md_T V x y (8 - (e + 1)) (s ||| ((1 : Int32) <<< (nI e &&& 31))) := by
  obtain ⟨m, hm⟩ : ∃ m, 8 - e = m + 1 := ⟨8 - (e + 1), by omega⟩
  have e1 : 8 - (e + 1) = m := by omega
  have e2 : 7 - m = e := by omega
  rw [hm, e1]
  rw [← e2] at h hb ⊢
  exact (if_neg h).trans (if_neg hb)
theorem md_T2 (V : Nat → Nat) : ∀ m s, md_T V 2 2 m s = nI (2 ^ m) := by
  intro m
  induction m with
  | zero => intro s; rfl
  | succ m ih =>
    intro s
    have e : nI (2 ^ (m + 1)) = nI 2 * nI (2 ^ m) := by rw [pk_mul, Nat.pow_succ, Nat.mul_comm]
    have e' : nI (2 ^ (m + 1)) = nI (2 ^ m) + nI (2 ^ m) := by rw [nI_add, Nat.pow_succ, Nat.mul_two]
    rcases Classical.em (md_lp V (7 - m) s) with h | h
    · refine (if_pos h).trans ?_
      rw [ih, e]
      rfl
    · rcases Classical.em (md_br V (7 - m) s) with hb | hb
      · refine ((if_neg h).trans (if_pos hb)).trans ?_
        rw [ih, e]
        rfl
      · refine ((if_neg h).trans (if_neg hb)).trans ?_
        rw [ih, ih, e']
noncomputable def md_ps (V : Nat → Nat) (x y : Int32) (ev : Nat → Nat) (b10 b11 : Nat → Int32) : Nat → Int32
  | 0 => 0
  | n + 1 => md_ps V x y ev b10 b11 n + b11 n * md_T V x y (8 - ev n) (b10 n)
def md_pm (ev : Nat → Nat) : Nat → Nat
  | 0 => 0
  | n + 1 => md_pm ev n + (2 ^ (9 - ev n) - 1)
theorem md_ps_congr {V : Nat → Nat} {x y : Int32} {ev ev' : Nat → Nat} {b10 b11 c10 c11 : Nat → Int32} {n : Nat} (h : ∀ i, i < n → ev i = ev' i ∧ b10 i = c10 i ∧ b11 i = c11 i) : md_ps V x y ev b10 b11 n = md_ps V x y ev' c10 c11 n := by
  induction n with
  | zero => rfl
  | succ n ih =>
    obtain ⟨e1, e2, e3⟩ := h n (by omega)
    show md_ps V x y ev b10 b11 n + b11 n * md_T V x y (8 - ev n) (b10 n) = md_ps V x y ev' c10 c11 n + c11 n * md_T V x y (8 - ev' n) (c10 n)
    rw [ih (fun i hi => h i (by omega)), e1, e2, e3]
theorem md_pm_congr {ev ev' : Nat → Nat} {n : Nat} (h : ∀ i, i < n → ev i = ev' i) : md_pm ev n = md_pm ev' n := by
  induction n with
  | zero => rfl
  | succ n ih =>
    show md_pm ev n + (2 ^ (9 - ev n) - 1) = md_pm ev' n + (2 ^ (9 - ev' n) - 1)
    rw [ih (fun i hi => h i (by omega)), h n (by omega)]
theorem md_ps_put {V : Nat → Nat} {x y : Int32} {ev : Nat → Nat} {b10 b11 : Nat → Int32} {n e : Nat} {s f : Int32} : md_ps V x y (md_up ev n e) (upd b10 n s) (upd b11 n f) (n + 1) = md_ps V x y ev b10 b11 n + f * md_T V x y (8 - e) s := by
  show md_ps V x y (md_up ev n e) (upd b10 n s) (upd b11 n f) n + (upd b11 n f) n * md_T V x y (8 - (md_up ev n e) n) ((upd b10 n s) n) = _
  rw [pk_us, pk_us, md_up_s]
  rw [md_ps_congr (fun i hi => ⟨md_up_n ev e (by omega), pk_un (by omega), pk_un (by omega)⟩)]
theorem md_pm_put {ev : Nat → Nat} {n e : Nat} : md_pm (md_up ev n e) (n + 1) = md_pm ev n + (2 ^ (9 - e) - 1) := by
  show md_pm (md_up ev n e) n + (2 ^ (9 - (md_up ev n e) n) - 1) = _
  rw [md_up_s, md_pm_congr (fun i hi => md_up_n ev e (by omega))]
/-- the stack: n parts -/
def md_stk (ev : Nat → Nat) (b9 : Nat → Int32) (n : Nat) : Prop := ∀ i, i < n → b9 i = nI (ev i) ∧ i ≤ ev i ∧ ev i ≤ 8
theorem md_stk_put {ev : Nat → Nat} {b9 : Nat → Int32} {n e : Nat} (h : md_stk ev b9 n) (h1 : n ≤ e) (h2 : e ≤ 8) : md_stk (md_up ev n e) (upd b9 n (nI e)) (n + 1) := by
  intro i hi
  rcases Classical.em (i = n) with w | w
  · subst w
    rw [pk_us, md_up_s]
    exact ⟨rfl, h1, h2⟩
  · rw [pk_un w, md_up_n _ _ w]
    exact h i (by omega)
/-! ===== isLoop, isBridge, pushPart ===== -/
theorem md_isLoop {post : Int32 → St1 → Prop} {q : Int32} {a1 a2 a3 a4 a5 a6 a7 a8 a9 a10 a11 : Nat → Int32} {V : Nat → Nat} {e : Nat} {s : Int32} (hV : ∀ e, e < 8 → V e < 32) (h1 : ∀ e, e < 8 → a1 e = nI (V e))
    (H1 : md_lp V e s → ∀ b4, post 1 (q, a1, a2, a3, b4, a5, a6, a7, a8, a9, a10, a11)) (H0 : ¬ md_lp V e s → ∀ b4, post 0 (q, a1, a2, a3, b4, a5, a6, a7, a8, a9, a10, a11)) : wpX_isLoop post (q, a1, a2, a3, a4, a5, a6, a7, a8, a9, a10, a11) (nI e) s := by
  have r5 := md_rho_le5 V (md_M s)
  have r5' := md_rho_le5 V (md_M (s ||| ((1 : Int32) <<< (nI e &&& 31))))
  unfold wpX_isLoop
  refine md_rank hV h1 (fun b4 => ?_)
  refine md_rank hV h1 (fun c4 => ?_)
  exact pk_eq (md_rho V (md_M (s ||| ((1 : Int32) <<< (nI e &&& 31))))) (md_rho V (md_M s)) (fun e => H1 e c4) (fun e => H0 e c4)
theorem md_isBridge {post : Int32 → St1 → Prop} {q : Int32} {a1 a2 a3 a4 a5 a6 a7 a8 a9 a10 a11 : Nat → Int32} {V : Nat → Nat} {e : Nat} {s : Int32} (hV : ∀ e, e < 8 → V e < 32) (h1 : ∀ e, e < 8 → a1 e = nI (V e))
    (H1 : md_br V e s → ∀ b4, post 1 (q, a1, a2, a3, b4, a5, a6, a7, a8, a9, a10, a11)) (H0 : ¬ md_br V e s → ∀ b4, post 0 (q, a1, a2, a3, b4, a5, a6, a7, a8, a9, a10, a11)) : wpX_isBridge post (q, a1, a2, a3, a4, a5, a6, a7, a8, a9, a10, a11) (nI e) s := by
  have r5 := md_rho_le5 V (md_M (s ||| md_bh e))
  have r5' := md_rho_le5 V (md_M ((s ||| md_bh e) ||| ((1 : Int32) <<< (nI e &&& 31))))
  unfold wpX_isBridge
  refine nm_r (e' := md_bh e) rfl ?_
  refine md_rank hV h1 (fun b4 => ?_)
  refine md_rank hV h1 (fun c4 => ?_)
  exact pk_le (md_rho V (md_M ((s ||| md_bh e) ||| ((1 : Int32) <<< (nI e &&& 31))))) (md_rho V (md_M (s ||| md_bh e))) (fun e => H0 (Nat.not_lt.mpr e) c4) (fun e => H1 e c4)
theorem md_pushP {post : Int32 → St1 → Prop} {q : Int32} {a1 a2 a3 a4 a5 a6 a7 a8 a9 a10 a11 : Nat → Int32} {n : Nat} {x s f : Int32} (hn : n < 12)
    (H : post (nI (n + 1)) (q, a1, a2, a3, a4, a5, a6, a7, a8, upd a9 n x, upd a10 n s, upd a11 n f)) : wpX_pushPart post (q, a1, a2, a3, a4, a5, a6, a7, a8, a9, a10, a11) (nI n) x s f := by
  unfold wpX_pushPart
  rw [nI_clamp (show n < 2 ^ 31 by omega), nI_1]
  exact ⟨vp_in_nI hn (by decide), nm_e ⟨vp_in_nI hn (by decide), nm_e ⟨vp_in_nI hn (by decide), nm_e H⟩⟩⟩
/-! ===== polynomial ===== -/
theorem md_p29 {post : Int32 → St1 → Prop} {q : Int32} {a1 a2 a3 a5 a6 a7 a8 : Nat → Int32} {V : Nat → Nat} {x y : Int32} (hV : ∀ e, e < 8 → V e < 32) (h1 : ∀ e, e < 8 → a1 e = nI (V e)) {W : Int32}
    (H : ∀ b4 b9 b10 b11, post W (q, a1, a2, a3, b4, a5, a6, a7, a8, b9, b10, b11)) :
    ∀ f n k t ev a4 a9 a10 a11, 600 - k < f → md_stk ev a9 n → t + md_ps V x y ev a10 a11 n = W → k + md_pm ev n ≤ 511 → wX_polynomial_29 post x y f (nI n) t (nI k) q a1 a2 a3 a4 a5 a6 a7 a8 a9 a10 a11 := by
  intro f
  induction f with
  | zero => intro n k t ev a4 a9 a10 a11 h; omega
  | succ f ih =>
    intro n k t ev a4 a9 a10 a11 hf hs ht hk
    refine br_f (nI_ge (b := 600) (by omega) (by decide)) ?_
    cases n with
    | zero =>
      have e : t = W := by
        rw [← ht]
        exact (Int32.add_zero t).symm
      subst e
      exact br_t (by decide) (H a4 a9 a10 a11)
    | succ n =>
      have hn := hs n (by omega)
      have hs' : md_stk ev a9 n := fun i hi => hs i (by omega)
      have hm : md_pm ev (n + 1) = md_pm ev n + (2 ^ (9 - ev n) - 1) := rfl
      have hp : md_ps V x y ev a10 a11 (n + 1) = md_ps V x y ev a10 a11 n + a11 n * md_T V x y (8 - ev n) (a10 n) := rfl
      rw [hp] at ht
      rw [hm] at hk
      refine br_f (nI_nle (by omega) (by omega)) (nm_r (pk_m1 n) ⟨vp_in_nI (by omega) (by decide), nm_r (e' := nI (ev n)) (by rw [nI_clamp (show n < 2 ^ 31 by omega)]; exact hn.1) ⟨vp_in_nI (by omega) (by decide), nm_r (e' := a10 n) (by rw [nI_clamp (show n < 2 ^ 31 by omega)]) ⟨vp_in_nI (by omega) (by decide), nm_r (e' := a11 n) (by rw [nI_clamp (show n < 2 ^ 31 by omega)]) ?_⟩⟩⟩)
      rcases Classical.em (ev n = 8) with w | w
      · refine br_t (by rw [w]; rfl) (nm_e (nm_r (nI_1 k) (ih n (k + 1) _ ev a4 a9 a10 a11 (by omega) hs' ?_ ?_)))
        · rw [w] at ht
          have e : md_T V x y (8 - 8) (a10 n) = 1 := rfl
          rw [e] at ht
          rw [← ht]
          grind
        · rw [w] at hk
          have : 2 ^ (9 - 8) - 1 = 1 := rfl
          omega
      · have he : ev n < 8 := by omega
        have pw : 2 ^ (9 - ev n) = 2 ^ (9 - (ev n + 1)) + 2 ^ (9 - (ev n + 1)) := by
          have : 9 - ev n = (9 - (ev n + 1)) + 1 := by omega
          rw [this, Nat.pow_succ, Nat.mul_two]
        have pp := Nat.two_pow_pos (9 - (ev n + 1))
        refine br_f (fun z => w ((nI_eq (by omega) (by omega)).mp z)) ?_
        refine md_isLoop hV h1 (fun hl b4 => ?_) (fun hl b4 => ?_)
        · refine br_f (by decide) ?_
          refine md_pushP (by omega) ?_
          refine nm_r (nI_1 k) (ih (n + 1) (k + 1) t (md_up ev n (ev n + 1)) b4 _ _ _ (by omega) ?_ ?_ ?_)
          · rw [nI_1]
            exact md_stk_put hs' (by omega) (by omega)
          · rw [md_ps_put]
            rw [md_T_l he hl] at ht
            rw [← ht]
            grind
          · rw [md_pm_put]
            omega
        · refine br_t rfl ?_
          refine md_isBridge hV h1 (fun hb c4 => ?_) (fun hb c4 => ?_)
          · refine br_f (by decide) ?_
            refine md_pushP (by omega) ?_
            refine nm_r (nI_1 k) (ih (n + 1) (k + 1) t (md_up ev n (ev n + 1)) c4 _ _ _ (by omega) ?_ ?_ ?_)
            · rw [nI_1]
              exact md_stk_put hs' (by omega) (by omega)
            · rw [md_ps_put]
              rw [md_T_b he hl hb] at ht
              rw [← ht]
              grind
            · rw [md_pm_put]
              omega
          · refine br_t rfl ?_
            refine md_pushP (by omega) ?_
            refine md_pushP (by omega) ?_
            refine nm_r (nI_1 k) (ih (n + 2) (k + 1) t (md_up (md_up ev n (ev n + 1)) (n + 1) (ev n + 1)) c4 _ _ _ (by omega) ?_ ?_ ?_)
            · rw [nI_1]
              exact md_stk_put (md_stk_put hs' (by omega) (by omega)) (by omega) (by omega)
            · rw [md_ps_put, md_ps_put]
              rw [md_T_n he hl hb] at ht
              rw [← ht]
              grind
            · rw [md_pm_put, md_pm_put]
              omega
theorem md_poly {post : Int32 → St1 → Prop} {q : Int32} {a1 a2 a3 a4 a5 a6 a7 a8 a9 a10 a11 : Nat → Int32} {V : Nat → Nat} {x y : Int32} (hV : ∀ e, e < 8 → V e < 32) (h1 : ∀ e, e < 8 → a1 e = nI (V e))
    (H : ∀ b4 b9 b10 b11, post (md_T V x y 8 0) (q, a1, a2, a3, b4, a5, a6, a7, a8, b9, b10, b11)) : wpX_polynomial post (q, a1, a2, a3, a4, a5, a6, a7, a8, a9, a10, a11) x y := by
  unfold wpX_polynomial
  refine nm_e (nm_e (nm_e ⟨601, ?_⟩))
  refine md_p29 hV h1 H 601 1 0 0 (md_up (fun _ => 0) 0 0) a4 _ _ _ (by omega) (md_stk_put (n := 0) (fun i hi => absurd hi (by omega)) (by omega) (by omega)) ?_ ?_
  · rw [md_ps_put]
    show 0 + (0 + 1 * md_T V x y 8 0) = md_T V x y 8 0
    grind
  · rw [md_pm_put]
    decide
theorem md_bases {post : Int32 → St1 → Prop} {q : Int32} {a1 a2 a3 a4 a5 a6 a7 a8 a9 a10 a11 : Nat → Int32} {V : Nat → Nat} (hV : ∀ e, e < 8 → V e < 32) (h1 : ∀ e, e < 8 → a1 e = nI (V e))
    (H : ∀ b4 b9 b10 b11, post (md_T V 1 1 8 0) (q, a1, a2, a3, b4, a5, a6, a7, a8, b9, b10, b11)) : wpX_bases post (q, a1, a2, a3, a4, a5, a6, a7, a8, a9, a10, a11) := by
  unfold wpX_bases
  exact md_poly hV h1 H
end
section
/-! ===== heaviestOf ===== -/
/-- z comes ahead of y: heavier, or as heavy and of a lower number -/
def md_bf (w : Nat → Int32) (z y : Nat) : Prop := (w y).toInt < (w z).toInt ∨ ((w z).toInt = (w y).toInt ∧ z < y)
theorem md_bf_as {w : Nat → Int32} {z y : Nat} (h : md_bf w z y) : ¬ md_bf w y z := by
  unfold md_bf at *
  omega
def md_hI (w : Nat → Int32) (s : Int32) (i : Nat) (x : Int32) : Prop :=
  (∃ b, b < i ∧ x = nI b ∧ md_M s b ∧ ∀ y, y < i → md_M s y → y ≠ b → md_bf w b y) ∨ (x = -1 ∧ ∀ y, y < i → ¬ md_M s y)
theorem md_ho34 {post : Int32 → Prop} {J : Int32 → Int32 → Prop} {s x2 z0 : Int32} {i : Nat} {q : Int32} {a1 a2 a3 a4 a5 a6 a7 a8 a9 a10 a11 : Nat → Int32} (hi : i < 8) (H0 : (¬ md_M s i ∨ z0 = 0) → J x2 (nI (i + 1))) (H1 : md_M s i → ¬ z0 = 0 → J (nI i) (nI (i + 1))) :
    wX_heaviestOf_34 post J s x2 (nI i) z0 q a1 a2 a3 a4 a5 a6 a7 a8 a9 a10 a11 := by
  unfold wX_heaviestOf_34
  rcases Classical.em (md_M s i) with y | y
  · exact br_f (fun w => absurd y ((md_tst s (by omega)).mp w)) (br_c (fun z => nm_r (nI_1 i) (H0 (Or.inr z))) (fun z => nm_r (nI_1 i) (H1 y z)))
  · exact br_t ((md_tst s (by omega)).mpr y) (nm_r (nI_1 i) (H0 (Or.inl y)))
theorem md_ho4 {post : Int32 → Prop} {q : Int32} {a1 a2 a3 a4 a5 a6 a7 a8 a9 a10 a11 : Nat → Int32} {s : Int32} (H : ∀ x, md_hI a3 s 8 x → post x) :
    ∀ n i x, i ≤ 8 → 8 - i < n → md_hI a3 s i x → wX_heaviestOf_4 post s q a1 a2 a3 a4 a5 a6 a7 a8 a9 a10 a11 n x (nI i) := by
  intro n
  induction n with
  | zero => intro i x _ h; omega
  | succ n ih =>
    intro i x hi hn hx
    rcases Nat.lt_or_ge i 8 with z | z
    · refine br_f (nI_ge (b := 8) z (by decide)) ?_
      rcases hx with hx | hx
      · obtain ⟨b, hb, rfl, hM, hA⟩ := hx
        refine br_f (nI_pos (by omega)) ⟨vp_in_nI z (by decide), vp_in_nI (by omega) (by decide), ?_⟩
        rw [nI_clamp (show i < 2 ^ 31 by omega), nI_clamp (show b < 2 ^ 31 by omega)]
        refine br_c (fun c => ?_) (fun c => ?_)
        · refine md_ho34 z (fun _ => ih (i + 1) _ (by omega) (by omega) (Or.inl ⟨b, by omega, rfl, hM, fun y hy hs n => ?_⟩)) (fun _ w => absurd rfl w)
          rcases Nat.lt_or_ge y i with u | u
          · exact hA y u hs n
          · have : y = i := by omega
            subst this
            have c' := Int32.le_iff_toInt_le.mp c
            unfold md_bf
            omega
        · have c' : ¬ (a3 i).toInt ≤ (a3 b).toInt := fun w => c (Int32.le_iff_toInt_le.mpr w)
          refine md_ho34 z (fun v => ih (i + 1) _ (by omega) (by omega) (Or.inl ⟨b, by omega, rfl, hM, fun y hy hs n => ?_⟩)) (fun hMi w => ih (i + 1) _ (by omega) (by omega) (Or.inl ⟨i, by omega, rfl, hMi, fun y hy hs n => ?_⟩))
          · rcases Nat.lt_or_ge y i with u | u
            · exact hA y u hs n
            · have : y = i := by omega
              subst this
              exact v.elim (fun v => absurd hs v) (fun v => absurd v (by decide))
          · rcases Classical.em (y = b) with u | u
            · subst u
              unfold md_bf
              omega
            · have t := hA y (by omega) hs u
              unfold md_bf at *
              omega
      · obtain ⟨rfl, hA⟩ := hx
        refine br_t (by decide) ?_
        refine md_ho34 z (fun v => ih (i + 1) _ (by omega) (by omega) (Or.inr ⟨rfl, fun y hy => ?_⟩)) (fun hMi w => ih (i + 1) _ (by omega) (by omega) (Or.inl ⟨i, by omega, rfl, hMi, fun y hy hs n => absurd hs (hA y (by omega))⟩))
        rcases Nat.lt_or_ge y i with u | u
        · exact hA y u
        · have : y = i := by omega
          subst this
          exact v.elim id (fun v => absurd v (by decide))
    · have e : i = 8 := by omega
      subst e
      exact br_t (nI_le (a := 8) (by omega) (by decide)) (H x hx)
theorem md_hOf {post : Int32 → Prop} {q : Int32} {a1 a2 a3 a4 a5 a6 a7 a8 a9 a10 a11 : Nat → Int32} {s : Int32} (hs : ∃ e, e < 8 ∧ md_M s e) (H : ∀ b, b < 8 → md_M s b → (∀ y, y < 8 → md_M s y → y ≠ b → md_bf a3 b y) → post (nI b)) : wpX_heaviestOf post (q, a1, a2, a3, a4, a5, a6, a7, a8, a9, a10, a11) s := by
  refine ⟨9, md_ho4 (fun x hx => ?_) 9 0 (-1) (by omega) (by omega) (Or.inr ⟨rfl, fun y hy => absurd hy (by omega)⟩)⟩
  rcases hx with hx | hx
  · obtain ⟨b, hb, rfl, hM, hA⟩ := hx
    exact H b hb hM hA
  · obtain ⟨e, he, hM⟩ := hs
    exact absurd hM (hx.2 e he)
/-! ===== heaviest ===== -/
noncomputable def md_v (p : Prop) (x : Int32) : Int32 := @ite Int32 p (Classical.propDecidable p) x 0
theorem md_v_t {p : Prop} {x : Int32} (h : p) : md_v p x = x := if_pos h
theorem md_v_f {p : Prop} {x : Int32} (h : ¬ p) : md_v p x = 0 := if_neg h
theorem md_v_iff {p q : Prop} {x : Int32} (h : p ↔ q) : md_v p x = md_v q x := by rw [propext h]
theorem md_cnt_all {f : Nat → Prop} {n : Nat} (h : ∀ j, j < n → f j) : md_cnt f n = n := by
  induction n with
  | zero => rfl
  | succ n ih => rw [md_cnt_s, ih (fun j hj => h j (by omega)), md_b_t (h n (by omega))]
theorem md_cnt_ex {f : Nat → Prop} {n : Nat} (h : md_cnt f n < n) : ∃ j, j < n ∧ ¬ f j := by
  rcases Classical.em (∃ j, j < n ∧ ¬ f j) with z | z
  · exact z
  · have := md_cnt_all (f := f) (n := n) (fun j hj => (Classical.em (f j)).elim id (fun w => absurd ⟨j, hj, w⟩ z))
    omega
/-- e is taken -/
def md_tk (V : Nat → Nat) (w : Nat → Int32) (e : Nat) : Prop := ¬ md_sp V (fun z => md_bf w z e) 8 (V e)
noncomputable def md_hv (V : Nat → Nat) (w : Nat → Int32) : Int32 := md_v (md_tk V w 0) (w 0) + md_v (md_tk V w 1) (w 1)
def md_HI (V : Nat → Nat) (w : Nat → Int32) (i : Nat) (t s x : Int32) : Prop :=
  md_cnt (md_M s) 8 = i ∧ (∀ a b, a < 8 → b < 8 → md_M s a → ¬ md_M s b → md_bf w a b) ∧ (∀ y, y < 8 → (md_M t y ↔ md_M s y ∧ md_tk V w y)) ∧
  md_ind V (md_M t) ∧ (∀ e, e < 8 → md_M s e → md_sp V (md_M t) 8 (V e)) ∧ x = md_v (md_M t 0) (w 0) + md_v (md_M t 1) (w 1)
theorem md_HI_tk {V : Nat → Nat} {w : Nat → Int32} {i : Nat} {t s x : Int32} (h : md_HI V w i t s x) {e : Nat} (he : e < 8) (hs : ¬ md_M s e) (hA : ∀ y, y < 8 → ¬ md_M s y → y ≠ e → md_bf w e y) : md_tk V w e ↔ ¬ md_sp V (md_M t) 8 (V e) := by
  obtain ⟨_, h2, h3, _, h5, _⟩ := h
  unfold md_tk
  have k : ∀ z, z < 8 → (md_bf w z e ↔ md_M s z) := by
    intro z hz
    constructor
    · intro hb
      rcases Classical.em (md_M s z) with y | y
      · exact y
      · rcases Classical.em (z = e) with u | u
        · subst u
          exact absurd hb (md_bf_as hb)
        · exact absurd (hA z hz y u) (md_bf_as hb)
    · intro hz'
      exact h2 z e hz he hz' hs
  constructor
  · intro n m
    exact n (md_sp_trans (T := fun z => md_bf w z e) (fun a ha hm => md_sp_mem ha ((k a ha).mpr ((h3 a ha).mp hm).1)) _ m)
  · intro n m
    exact n (md_sp_trans (fun a ha hm => h5 a ha ((k a ha).mp hm)) _ m)
theorem md_HI_add {V : Nat → Nat} {w : Nat → Int32} {i : Nat} {t s x t' s' x' : Int32} (hV : ∀ e, e < 8 → V e < 32) (h : md_HI V w i t s x) {e : Nat} (he : e < 8) (hs : ¬ md_M s e) (hA : ∀ y, y < 8 → ¬ md_M s y → y ≠ e → md_bf w e y)
    (hw : ∀ e, 2 ≤ e → e < 8 → w e = 0) (hs' : ∀ y, y < 8 → (md_M s' y ↔ md_M s y ∨ y = e))
    (hc : (md_ind V (md_M t') ∧ (∀ y, y < 8 → (md_M t' y ↔ md_M t y ∨ y = e)) ∧ x' = x + w e) ∨ (∃ u, (∀ y, y < 8 → (md_M u y ↔ md_M t y ∨ y = e)) ∧ ¬ md_ind V (md_M u) ∧ t' = t ∧ x' = x)) : md_HI V w (i + 1) t' s' x' := by
  have htk := md_HI_tk h he hs hA
  obtain ⟨h1, h2, h3, h4, h5, h6⟩ := h
  have hte : ¬ md_M t e := fun z => hs ((h3 e he).mp z).1
  have g1 : md_cnt (md_M s') 8 = i + 1 := by rw [md_card_ins he hs hs', h1]
  have g2 : ∀ a b, a < 8 → b < 8 → md_M s' a → ¬ md_M s' b → md_bf w a b := by
    intro a b ha hb hsa hsb
    have hsb' : ¬ md_M s b := fun z => hsb ((hs' b hb).mpr (Or.inl z))
    rcases (hs' a ha).mp hsa with z | z
    · exact h2 a b ha hb z hsb'
    · subst z
      exact hA b hb hsb' (fun z => hsb ((hs' b hb).mpr (Or.inr z)))
  rcases hc with ⟨c1, c2, c3⟩ | ⟨u, c1, c2, c3, c4⟩
  · have hout := md_ind_out hV he hte c2 c1
    refine ⟨g1, g2, fun y hy => ?_, c1, fun a ha hsa => ?_, ?_⟩
    · rw [c2 y hy, hs' y hy, h3 y hy]
      constructor
      · intro z
        rcases z with z | z
        · exact ⟨Or.inl z.1, z.2⟩
        · subst z
          exact ⟨Or.inr rfl, htk.mpr hout.1⟩
      · intro z
        rcases z.1 with y' | y'
        · exact Or.inl ⟨y', z.2⟩
        · exact Or.inr y'
    · rcases (hs' a ha).mp hsa with z | z
      · exact md_sp_mono (fun b hb hm => (c2 b hb).mpr (Or.inl hm)) _ (h5 a ha z)
      · subst z
        exact md_sp_mem ha ((c2 a ha).mpr (Or.inr rfl))
    · rw [c3, h6]
      rcases Classical.em (e = 0) with z | z
      · subst z
        rw [md_v_f hte, md_v_t ((c2 0 (by omega)).mpr (Or.inr rfl)), md_v_iff (c2 1 (by omega)), md_v_iff (p := md_M t 1 ∨ 1 = 0) (q := md_M t 1) ⟨fun a => a.elim id (fun b => absurd b (by decide)), Or.inl⟩]
        grind
      · rcases Classical.em (e = 1) with y | y
        · subst y
          rw [md_v_f hte, md_v_t ((c2 1 (by omega)).mpr (Or.inr rfl)), md_v_iff (c2 0 (by omega)), md_v_iff (p := md_M t 0 ∨ 0 = 1) (q := md_M t 0) ⟨fun a => a.elim id (fun b => absurd b (by decide)), Or.inl⟩]
          grind
        · rw [hw e (by omega) he, md_v_iff (c2 0 (by omega)), md_v_iff (c2 1 (by omega)), md_v_iff (p := md_M t 0 ∨ 0 = e) (q := md_M t 0) ⟨fun a => a.elim id (fun b => absurd b (by omega)), Or.inl⟩, md_v_iff (p := md_M t 1 ∨ 1 = e) (q := md_M t 1) ⟨fun a => a.elim id (fun b => absurd b (by omega)), Or.inl⟩]
          exact Int32.add_zero _
  · subst c3
    have hin := md_ind_in hV he hte c1 h4 c2
    refine ⟨g1, g2, fun y hy => ?_, h4, fun a ha hsa => ?_, by rw [c4, h6]⟩
    · rw [hs' y hy, h3 y hy]
      constructor
      · intro z
        exact ⟨Or.inl z.1, z.2⟩
      · intro z
        rcases z.1 with y' | y'
        · exact ⟨y', z.2⟩
        · subst y'
          exact absurd hin (htk.mp z.2)
    · rcases (hs' a ha).mp hsa with z | z
      · exact h5 a ha z
      · subst z
        exact hin
theorem md_h9 {post : Int32 → St1 → Prop} {q : Int32} {a1 a2 a3 a5 a6 a7 a8 a9 a10 a11 : Nat → Int32} {V : Nat → Nat} (hV : ∀ e, e < 8 → V e < 32) (h1 : ∀ e, e < 8 → a1 e = nI (V e)) (hw : ∀ e, 2 ≤ e → e < 8 → a3 e = 0)
    (H : ∀ b4, post (md_hv V a3) (q, a1, a2, a3, b4, a5, a6, a7, a8, a9, a10, a11)) :
    ∀ n i t s x a4, i ≤ 8 → 8 - i < n → md_HI V a3 i t s x → wX_heaviest_9 post n t s x (nI i) q a1 a2 a3 a4 a5 a6 a7 a8 a9 a10 a11 := by
  intro n
  induction n with
  | zero => intro i t s x a4 _ h; omega
  | succ n ih =>
    intro i t s x a4 hi hn hI
    rcases Nat.lt_or_ge i 8 with z | z
    · refine br_f (nI_ge (b := 8) z (by decide)) ?_
      have hM : ∀ y, y < 8 → (md_M (255 &&& (s ^^^ (-1))) y ↔ ¬ md_M s y) := by
        intro y hy
        rw [md_M_and, md_M_not _ (by omega), md_M_255 (by omega)]
        exact ⟨fun w => w.2, fun w => ⟨hy, w⟩⟩
      have hex : ∃ e, e < 8 ∧ md_M (255 &&& (s ^^^ (-1))) e := by
        obtain ⟨j, hj, hm⟩ := md_cnt_ex (f := md_M s) (n := 8) (by rw [hI.1]; exact z)
        exact ⟨j, hj, (hM j hj).mpr hm⟩
      refine md_hOf hex (fun b hb hbM hA => ?_)
      have hs : ¬ md_M s b := (hM b hb).mp hbM
      have hA' : ∀ y, y < 8 → ¬ md_M s y → y ≠ b → md_bf a3 b y := fun y hy hm => hA y hy ((hM y hy).mpr hm)
      refine nm_e ?_
      refine md_isInd hV h1 (fun hi b4 => ?_) (fun hi b4 => ?_)
      · refine br_f (by decide) (nm_e ⟨vp_in_nI hb (by decide), ?_⟩)
        rw [nI_clamp (show b < 2 ^ 31 by omega)]
        refine nm_e (nm_r (nI_1 i) (ih (i + 1) _ _ _ b4 (by omega) (by omega) ?_))
        exact md_HI_add hV hI hb hs hA' hw (fun y hy => md_M_ins s (by omega) (by omega)) (Or.inl ⟨hi, fun y hy => md_M_ins t (by omega) (by omega), rfl⟩)
      · refine br_t rfl (nm_r (nI_1 i) (ih (i + 1) _ _ _ b4 (by omega) (by omega) ?_))
        exact md_HI_add hV hI hb hs hA' hw (fun y hy => md_M_ins s (by omega) (by omega)) (Or.inr ⟨_, fun y hy => md_M_ins t (by omega) (by omega), hi, rfl, rfl⟩)
    · have e : i = 8 := by omega
      subst e
      refine br_t (nI_le (a := 8) (by omega) (by decide)) ?_
      obtain ⟨h1', _, h3, _, _, h6⟩ := hI
      have e1 : ∀ y, y < 8 → (md_M t y ↔ md_tk V a3 y) := fun y hy => (h3 y hy).trans ⟨fun w => w.2, fun w => ⟨md_cnt_full h1' hy, w⟩⟩
      have e2 : x = md_hv V a3 := by
        rw [h6, md_v_iff (e1 0 (by omega)), md_v_iff (e1 1 (by omega))]
        rfl
      rw [e2]
      exact H a4
theorem md_heaviest {post : Int32 → St1 → Prop} {q : Int32} {a1 a2 a3 a4 a5 a6 a7 a8 a9 a10 a11 : Nat → Int32} {V : Nat → Nat} (hV : ∀ e, e < 8 → V e < 32) (h1 : ∀ e, e < 8 → a1 e = nI (V e)) (hw : ∀ e, 2 ≤ e → e < 8 → a3 e = 0)
    (H : ∀ b4, post (md_hv V a3) (q, a1, a2, a3, b4, a5, a6, a7, a8, a9, a10, a11)) : wpX_heaviest post (q, a1, a2, a3, a4, a5, a6, a7, a8, a9, a10, a11) := by
  refine ⟨9, md_h9 hV h1 hw H 9 0 0 0 0 a4 (by omega) (by omega) ⟨?_, fun a b _ _ ha => absurd ha (md_M_0 a), fun y _ => ⟨fun w => absurd w (md_M_0 y), fun w => absurd w.1 (md_M_0 y)⟩, ?_, fun e _ w => absurd w (md_M_0 e), ?_⟩⟩
  · exact md_cnt_none (fun j _ => md_M_0 j)
  · have c : md_cnt (md_M 0) 8 = 0 := md_cnt_none (fun j _ => md_M_0 j)
    have r := md_rho_card (S := md_M 0) hV
    unfold md_ind
    omega
  · rw [md_v_f (md_M_0 0), md_v_f (md_M_0 1)]
    rfl
end
section
/-! ===== one weight changes: the sum follows, no faster ===== -/
def md_g (a a' b b' x y : Int) : Int := if x < y then a' * x + b * y else a * x + b' * y
def md_gc (a a' b b' : Int) : Prop := (a = 0 ∨ a = 1) ∧ (a' = 0 ∨ a' = 1) ∧ (b = 0 ∨ b = 1) ∧ (b' = 0 ∨ b' = 1) ∧ a + b' = b + a' ∧ a' ≤ a
theorem md_g_x {a a' b b' : Int} (h : md_gc a a' b b') {x x' : Int} (y : Int) (hx : x ≤ x') : md_g a a' b b' x y ≤ md_g a a' b b' x' y ∧ md_g a a' b b' x' y ≤ md_g a a' b b' x y + (x' - x) := by
  obtain ⟨h1, h2, h3, h4, h5, h6⟩ := h
  unfold md_g
  rcases h1 with rfl | rfl <;> rcases h2 with rfl | rfl <;> rcases h3 with rfl | rfl <;> rcases h4 with rfl | rfl <;> (split <;> split <;> omega)
theorem md_g_y {a a' b b' : Int} (h : md_gc a a' b b') {y y' : Int} (x : Int) (hy : y ≤ y') : md_g a a' b b' x y ≤ md_g a a' b b' x y' ∧ md_g a a' b b' x y' ≤ md_g a a' b b' x y + (y' - y) := by
  obtain ⟨h1, h2, h3, h4, h5, h6⟩ := h
  unfold md_g
  rcases h1 with rfl | rfl <;> rcases h2 with rfl | rfl <;> rcases h3 with rfl | rfl <;> rcases h4 with rfl | rfl <;> (split <;> split <;> omega)
def md_F (a a' b b' c c' d d' x y : Int) : Int := md_g a a' b b' (max x 0) (max y 0) + md_g c c' d d' (min x 0) (min y 0)
theorem md_F_x {a a' b b' c c' d d' : Int} (h : md_gc a a' b b') (h' : md_gc c c' d d') {x x' : Int} (y : Int) (hx : x ≤ x') : md_F a a' b b' c c' d d' x y ≤ md_F a a' b b' c c' d d' x' y ∧ md_F a a' b b' c c' d d' x' y ≤ md_F a a' b b' c c' d d' x y + (x' - x) := by
  have t := md_g_x h (x := max x 0) (x' := max x' 0) (max y 0) (by omega)
  have t' := md_g_x h' (x := min x 0) (x' := min x' 0) (min y 0) (by omega)
  unfold md_F
  omega
theorem md_F_y {a a' b b' c c' d d' : Int} (h : md_gc a a' b b') (h' : md_gc c c' d d') {y y' : Int} (x : Int) (hy : y ≤ y') : md_F a a' b b' c c' d d' x y ≤ md_F a a' b b' c c' d d' x y' ∧ md_F a a' b b' c c' d d' x y' ≤ md_F a a' b b' c c' d d' x y + (y' - y) := by
  have t := md_g_y h (y := max y 0) (y' := max y' 0) (max x 0) (by omega)
  have t' := md_g_y h' (y := min y 0) (y' := min y' 0) (min x 0) (by omega)
  unfold md_F
  omega
theorem md_F_of {a a' b b' c c' d d' x y t u : Int} (ht : t = (if x < 0 then (if x < y then c' else c) else (if x < y then a' else a))) (hu : u = (if y < 0 then (if x < y then d else d') else (if x < y then b else b'))) :
    t * x + u * y = md_F a a' b b' c c' d d' x y := by
  subst ht hu
  unfold md_F
  rcases Int.lt_or_le x 0 with h1 | h1
  · rw [Int.max_eq_right (by omega : x ≤ 0), Int.min_eq_left (by omega : x ≤ 0)]
    rcases Int.lt_or_le y 0 with h2 | h2
    · rw [Int.max_eq_right (by omega : y ≤ 0), Int.min_eq_left (by omega : y ≤ 0)]
      unfold md_g
      rcases Int.lt_or_le x y with h3 | h3
      · rw [if_pos h1, if_pos h2, if_pos h3, if_pos h3, if_pos h3, if_neg (by omega)]
        omega
      · rw [if_pos h1, if_pos h2, if_neg (by omega), if_neg (by omega), if_neg (by omega), if_neg (by omega)]
        omega
    · rw [Int.max_eq_left h2, Int.min_eq_right h2]
      unfold md_g
      rw [if_pos h1, if_neg (by omega : ¬ y < 0), if_pos (by omega : x < y), if_pos (by omega : x < y), if_pos h1]
      rcases Int.lt_or_le 0 y with h3 | h3
      · rw [if_pos h3]
        omega
      · have : y = 0 := by omega
        subst this
        rw [if_neg (by omega)]
        omega
  · rw [Int.max_eq_left h1, Int.min_eq_right h1]
    rcases Int.lt_or_le y 0 with h2 | h2
    · rw [Int.max_eq_right (by omega : y ≤ 0), Int.min_eq_left (by omega : y ≤ 0)]
      unfold md_g
      rw [if_neg (by omega : ¬ x < 0), if_pos h2, if_neg (by omega : ¬ x < y), if_neg (by omega : ¬ x < y), if_neg (by omega : ¬ x < 0), if_neg (by omega : ¬ 0 < y)]
      omega
    · rw [Int.max_eq_left h2, Int.min_eq_right h2]
      unfold md_g
      rcases Int.lt_or_le x y with h3 | h3
      · rw [if_neg (by omega : ¬ x < 0), if_neg (by omega : ¬ y < 0), if_pos h3, if_pos h3, if_pos h3, if_neg (by omega)]
        omega
      · rw [if_neg (by omega : ¬ x < 0), if_neg (by omega : ¬ y < 0), if_neg (by omega : ¬ x < y), if_neg (by omega : ¬ x < y), if_neg (by omega : ¬ x < y), if_neg (by omega)]
        omega
theorem md_rho_b {V : Nat → Nat} {S T : Nat → Prop} {e : Nat} (hV : ∀ e, e < 8 → V e < 32) (he : e < 8) (hT : ∀ i, i < 8 → (T i ↔ S i ∨ i = e)) : md_rho V T = md_rho V S + md_b (¬ md_sp V S 8 (V e)) := by
  rcases Classical.em (md_sp V S 8 (V e)) with z | z
  · rw [md_b_f (fun w => w z), md_rho_in hV he hT z]
    rfl
  · rw [md_b_t z, md_rho_out hV he hT z]
theorem md_sp_congr {V : Nat → Nat} {S T : Nat → Prop} (h : ∀ e, e < 8 → (S e ↔ T e)) (x : Nat) : md_sp V S 8 x ↔ md_sp V T 8 x :=
  ⟨md_sp_mono (fun e he => (h e he).mp) x, md_sp_mono (fun e he => (h e he).mpr) x⟩
theorem md_bZ (p : Prop) : ((md_b p : Nat) : Int) = 0 ∨ ((md_b p : Nat) : Int) = 1 := by
  have := md_b_le p
  omega
/-- does V e lie outside the span of S: 1 or 0 -/
noncomputable def md_o (V : Nat → Nat) (S : Nat → Prop) (e : Nat) : Int := (md_b (¬ md_sp V S 8 (V e)) : Nat)
theorem md_gcQ {V : Nat → Nat} (hV : ∀ e, e < 8 → V e < 32) (Q : Nat → Prop) : md_gc (md_o V Q 0) (md_o V (fun z => Q z ∨ z = 1) 0) (md_o V Q 1) (md_o V (fun z => Q z ∨ z = 0) 1) := by
  refine ⟨md_bZ _, md_bZ _, md_bZ _, md_bZ _, ?_, ?_⟩
  · have e1 := md_rho_b (S := Q) (T := fun z => Q z ∨ z = 0) hV (by omega : 0 < 8) (fun i _ => Iff.rfl)
    have e2 := md_rho_b (S := fun z => Q z ∨ z = 0) (T := fun z => (Q z ∨ z = 0) ∨ z = 1) hV (by omega : 1 < 8) (fun i _ => Iff.rfl)
    have e3 := md_rho_b (S := Q) (T := fun z => Q z ∨ z = 1) hV (by omega : 1 < 8) (fun i _ => Iff.rfl)
    have e4 := md_rho_b (S := fun z => Q z ∨ z = 1) (T := fun z => (Q z ∨ z = 0) ∨ z = 1) hV (by omega : 0 < 8) (fun i _ => or_right_comm)
    unfold md_o
    omega
  · have : md_b (¬ md_sp V (fun z => Q z ∨ z = 1) 8 (V 0)) ≤ md_b (¬ md_sp V Q 8 (V 0)) := md_b_mono (fun n m => n (md_sp_mono (fun _ _ => Or.inl) _ m))
    unfold md_o
    omega
def md_Q0 (z : Nat) : Prop := z < 0
def md_QR (z : Nat) : Prop := 2 ≤ z
theorem md_tk0 {V : Nat → Nat} {w : Nat → Int32} (hw : ∀ e, 2 ≤ e → e < 8 → w e = 0) : ((md_b (md_tk V w 0) : Nat) : Int) =
    (if (w 0).toInt < 0 then (if (w 0).toInt < (w 1).toInt then md_o V (fun z => md_QR z ∨ z = 1) 0 else md_o V md_QR 0) else (if (w 0).toInt < (w 1).toInt then md_o V (fun z => md_Q0 z ∨ z = 1) 0 else md_o V md_Q0 0)) := by
  have k : ∀ S : Nat → Prop, (∀ z, z < 8 → (md_bf w z 0 ↔ S z)) → ((md_b (md_tk V w 0) : Nat) : Int) = md_o V S 0 := by
    intro S hS
    unfold md_o md_tk
    rw [md_b_iff (not_congr (md_sp_congr hS (V 0)))]
  have w2 : ∀ z, 2 ≤ z → z < 8 → (w z).toInt = 0 := fun z h1 h2 => by rw [hw z h1 h2]; rfl
  have k0 : ∀ z, z < 8 → z = 0 ∨ z = 1 ∨ (2 ≤ z ∧ (w z).toInt = 0) := by
    intro z hz
    rcases Nat.lt_or_ge z 2 with y | y
    · omega
    · exact Or.inr (Or.inr ⟨y, w2 z y hz⟩)
  split
  · split
    · refine k _ (fun z hz => ?_)
      rcases k0 z hz with rfl | rfl | ⟨y1, y2⟩ <;> (unfold md_bf md_QR; omega)
    · refine k _ (fun z hz => ?_)
      rcases k0 z hz with rfl | rfl | ⟨y1, y2⟩ <;> (unfold md_bf md_QR; omega)
  · split
    · refine k _ (fun z hz => ?_)
      rcases k0 z hz with rfl | rfl | ⟨y1, y2⟩ <;> (unfold md_bf md_Q0; omega)
    · refine k _ (fun z hz => ?_)
      rcases k0 z hz with rfl | rfl | ⟨y1, y2⟩ <;> (unfold md_bf md_Q0; omega)
theorem md_tk1 {V : Nat → Nat} {w : Nat → Int32} (hw : ∀ e, 2 ≤ e → e < 8 → w e = 0) : ((md_b (md_tk V w 1) : Nat) : Int) =
    (if (w 1).toInt < 0 then (if (w 0).toInt < (w 1).toInt then md_o V md_QR 1 else md_o V (fun z => md_QR z ∨ z = 0) 1) else (if (w 0).toInt < (w 1).toInt then md_o V md_Q0 1 else md_o V (fun z => md_Q0 z ∨ z = 0) 1)) := by
  have k : ∀ S : Nat → Prop, (∀ z, z < 8 → (md_bf w z 1 ↔ S z)) → ((md_b (md_tk V w 1) : Nat) : Int) = md_o V S 1 := by
    intro S hS
    unfold md_o md_tk
    rw [md_b_iff (not_congr (md_sp_congr hS (V 1)))]
  have w2 : ∀ z, 2 ≤ z → z < 8 → (w z).toInt = 0 := fun z h1 h2 => by rw [hw z h1 h2]; rfl
  have k0 : ∀ z, z < 8 → z = 0 ∨ z = 1 ∨ (2 ≤ z ∧ (w z).toInt = 0) := by
    intro z hz
    rcases Nat.lt_or_ge z 2 with y | y
    · omega
    · exact Or.inr (Or.inr ⟨y, w2 z y hz⟩)
  split
  · split
    · refine k _ (fun z hz => ?_)
      rcases k0 z hz with rfl | rfl | ⟨y1, y2⟩ <;> (unfold md_bf md_QR; omega)
    · refine k _ (fun z hz => ?_)
      rcases k0 z hz with rfl | rfl | ⟨y1, y2⟩ <;> (unfold md_bf md_QR; omega)
  · split
    · refine k _ (fun z hz => ?_)
      rcases k0 z hz with rfl | rfl | ⟨y1, y2⟩ <;> (unfold md_bf md_Q0; omega)
    · refine k _ (fun z hz => ?_)
      rcases k0 z hz with rfl | rfl | ⟨y1, y2⟩ <;> (unfold md_bf md_Q0; omega)
theorem md_vZ (p : Prop) (x : Int32) : (md_v p x).toInt = ((md_b p : Nat) : Int) * x.toInt := by
  rcases Classical.em p with z | z
  · rw [md_v_t z, md_b_t z]
    omega
  · rw [md_v_f z, md_b_f z]
    have : (0 : Int32).toInt = 0 := rfl
    omega
def md_wt (w : Nat → Int32) : Prop := (∀ e, 2 ≤ e → e < 8 → w e = 0) ∧ (-100 ≤ (w 0).toInt ∧ (w 0).toInt ≤ 100) ∧ (-100 ≤ (w 1).toInt ∧ (w 1).toInt ≤ 100)
theorem md_hvZ {V : Nat → Nat} {w : Nat → Int32} (h : md_wt w) : (-200 ≤ (md_hv V w).toInt ∧ (md_hv V w).toInt ≤ 200) ∧ (md_hv V w).toInt = md_F (md_o V md_Q0 0) (md_o V (fun z => md_Q0 z ∨ z = 1) 0) (md_o V md_Q0 1) (md_o V (fun z => md_Q0 z ∨ z = 0) 1) (md_o V md_QR 0) (md_o V (fun z => md_QR z ∨ z = 1) 0) (md_o V md_QR 1) (md_o V (fun z => md_QR z ∨ z = 0) 1) (w 0).toInt (w 1).toInt := by
  have b0 : -100 ≤ (md_v (md_tk V w 0) (w 0)).toInt ∧ (md_v (md_tk V w 0) (w 0)).toInt ≤ 100 := by
    rw [md_vZ]
    rcases md_bZ (md_tk V w 0) with z | z <;> (rw [z]; have := h.2.1; omega)
  have b1 : -100 ≤ (md_v (md_tk V w 1) (w 1)).toInt ∧ (md_v (md_tk V w 1) (w 1)).toInt ≤ 100 := by
    rw [md_vZ]
    rcases md_bZ (md_tk V w 1) with z | z <;> (rw [z]; have := h.2.2; omega)
  have e : (md_hv V w).toInt = (md_v (md_tk V w 0) (w 0)).toInt + (md_v (md_tk V w 1) (w 1)).toInt := by
    unfold md_hv
    rw [Int32.toInt_add]
    exact Int.bmod_eq_of_le (by omega) (by omega)
  refine ⟨by omega, ?_⟩
  rw [e, md_vZ, md_vZ]
  exact md_F_of (md_tk0 h.1) (md_tk1 h.1)
theorem md_lip {V : Nat → Nat} {w w' : Nat → Int32} (hV : ∀ e, e < 8 → V e < 32) (h : md_wt w) (h' : md_wt w') {x x' : Int32} (hc : (w 0 = x ∧ w' 0 = x' ∧ w' 1 = w 1) ∨ (w 1 = x ∧ w' 1 = x' ∧ w' 0 = w 0)) :
    (x' - x < 0 → ¬ md_hv V w < md_hv V w' ∧ md_hv V w + (x' - x) ≤ md_hv V w') ∧ (¬ x' - x < 0 → ¬ md_hv V w' < md_hv V w ∧ md_hv V w' ≤ md_hv V w + (x' - x)) := by
  obtain ⟨b, e⟩ := md_hvZ (V := V) h
  obtain ⟨b', e'⟩ := md_hvZ (V := V) h'
  have c0 := md_gcQ hV md_Q0
  have cR := md_gcQ hV md_QR
  have hx : -100 ≤ x.toInt ∧ x.toInt ≤ 100 := by
    rcases hc with ⟨c, _, _⟩ | ⟨c, _, _⟩
    · rw [← c]; exact h.2.1
    · rw [← c]; exact h.2.2
  have hx' : -100 ≤ x'.toInt ∧ x'.toInt ≤ 100 := by
    rcases hc with ⟨_, c, _⟩ | ⟨_, c, _⟩
    · rw [← c]; exact h'.2.1
    · rw [← c]; exact h'.2.2
  have ed : (x' - x).toInt = x'.toInt - x.toInt := by
    rw [Int32.toInt_sub]
    exact Int.bmod_eq_of_le (by omega) (by omega)
  have es : (md_hv V w + (x' - x)).toInt = (md_hv V w).toInt + (x'.toInt - x.toInt) := by
    rw [Int32.toInt_add, ed]
    exact Int.bmod_eq_of_le (by omega) (by omega)
  have e0 : (0 : Int32).toInt = 0 := rfl
  have key : (x.toInt ≤ x'.toInt → (md_hv V w).toInt ≤ (md_hv V w').toInt ∧ (md_hv V w').toInt ≤ (md_hv V w).toInt + (x'.toInt - x.toInt)) ∧ (x'.toInt ≤ x.toInt → (md_hv V w').toInt ≤ (md_hv V w).toInt ∧ (md_hv V w).toInt ≤ (md_hv V w').toInt + (x.toInt - x'.toInt)) := by
    rw [e, e']
    rcases hc with ⟨c1, c2, c3⟩ | ⟨c1, c2, c3⟩
    · rw [c1, c2, c3]
      exact ⟨fun z => md_F_x c0 cR _ z, fun z => md_F_x c0 cR _ z⟩
    · rw [c1, c2, c3]
      exact ⟨fun z => md_F_y c0 cR _ z, fun z => md_F_y c0 cR _ z⟩
  rw [Int32.lt_iff_toInt_lt, Int32.lt_iff_toInt_lt, Int32.lt_iff_toInt_lt, Int32.le_iff_toInt_le, Int32.le_iff_toInt_le, ed, es, e0]
  constructor
  · intro z
    have := key.2 (by omega)
    omega
  · intro z
    have := key.1 (by omega)
    omega
end
section
/-! ===== clearClasses, startSearch ===== -/
theorem md_cc2 {post : St1 → Prop} {q : Int32} {a1 a2 a3 a4 a6 a7 a8 a9 a10 a11 : Nat → Int32} (H : ∀ b5, (∀ e, e < 8 → b5 e = 0) → post (q, a1, a2, a3, a4, b5, a6, a7, a8, a9, a10, a11)) :
    ∀ n i a5, i ≤ 8 → 8 - i < n → (∀ e, e < i → a5 e = 0) → wX_clearClasses_2 post q n (nI i) a1 a2 a3 a4 a5 a6 a7 a8 a9 a10 a11 := by
  intro n
  induction n with
  | zero => intro i a5 _ h; omega
  | succ n ih =>
    intro i a5 hi hn ha
    rcases Nat.lt_or_ge i 8 with z | z
    · refine br_f (nI_ge (b := 8) z (by decide)) ⟨vp_in_nI z (by decide), nm_e (nm_r (nI_1 i) (ih (i + 1) _ (by omega) (by omega) ?_))⟩
      intro k hk
      rw [nI_clamp (show i < 2 ^ 31 by omega)]
      rcases Classical.em (k = i) with w | w
      · rw [w, pk_us]
      · rw [pk_un w]
        exact ha k (by omega)
    · have e : i = 8 := by omega
      subst e
      exact br_t (nI_le (a := 8) (by omega) (by decide)) (H a5 ha)
theorem md_clear {post : St1 → Prop} {q : Int32} {a1 a2 a3 a4 a5 a6 a7 a8 a9 a10 a11 : Nat → Int32} (H : ∀ b5, (∀ e, e < 8 → b5 e = 0) → post (q, a1, a2, a3, a4, b5, a6, a7, a8, a9, a10, a11)) : wpX_clearClasses post (q, a1, a2, a3, a4, a5, a6, a7, a8, a9, a10, a11) :=
  ⟨9, md_cc2 H 9 0 a5 (by omega) (by omega) (fun e he => absurd he (by omega))⟩
theorem md_ss7 {post : St1 → Prop} {q : Int32} {a1 a2 a3 a4 a5 a8 a9 a10 a11 : Nat → Int32} (H : ∀ b6 b7, (∀ e, e < 8 → b7 e = 0) → post (q, a1, a2, a3, a4, a5, b6, b7, a8, a9, a10, a11)) :
    ∀ n i a6 a7, i ≤ 8 → 8 - i < n → (∀ e, e < i → a7 e = 0) → wX_startSearch_7 post q n (nI i) a1 a2 a3 a4 a5 a6 a7 a8 a9 a10 a11 := by
  intro n
  induction n with
  | zero => intro i a6 a7 _ h; omega
  | succ n ih =>
    intro i a6 a7 hi hn ha
    rcases Nat.lt_or_ge i 8 with z | z
    · refine br_f (nI_ge (b := 8) z (by decide)) ⟨vp_in_nI z (by decide), nm_e ⟨vp_in_nI z (by decide), nm_e (nm_r (nI_1 i) (ih (i + 1) _ _ (by omega) (by omega) ?_))⟩⟩
      intro k hk
      rw [nI_clamp (show i < 2 ^ 31 by omega)]
      rcases Classical.em (k = i) with w | w
      · rw [w, pk_us]
      · rw [pk_un w]
        exact ha k (by omega)
    · have e : i = 8 := by omega
      subst e
      exact br_t (nI_le (a := 8) (by omega) (by decide)) (H a6 a7 ha)
/-! ===== what a search has found: sources, and who was reached from whom ===== -/
def md_SI (Src : Nat → Prop) (Edge : Nat → Nat → Prop) (m : Nat) (b6 b7 b8 : Nat → Int32) : Prop :=
  m = md_cnt (fun e => ¬ b7 e = 0) 8 ∧ (∀ j, j < m → ∃ e, e < 8 ∧ b8 j = nI e ∧ ¬ b7 e = 0) ∧
  ∃ pos : Nat → Nat, ∀ e, e < 8 → ¬ b7 e = 0 → pos e < m ∧ ((b6 e = -1 ∧ Src e) ∨ ∃ f, f < 8 ∧ b6 e = nI f ∧ ¬ b7 f = 0 ∧ pos f < pos e ∧ Edge f e)
theorem md_SI_8 {Src : Nat → Prop} {Edge : Nat → Nat → Prop} {m : Nat} {b6 b7 b8 : Nat → Int32} (h : md_SI Src Edge m b6 b7 b8) : m ≤ 8 := by
  rw [h.1]
  exact md_cnt_le _ 8
theorem md_SI_0 (Src : Nat → Prop) (Edge : Nat → Nat → Prop) (b6 b8 : Nat → Int32) {b7 : Nat → Int32} (h : ∀ e, e < 8 → b7 e = 0) : md_SI Src Edge 0 b6 b7 b8 :=
  ⟨(md_cnt_none (fun j hj w => w (h j hj))).symm, fun j hj => absurd hj (by omega), fun _ => 0, fun e he w => absurd (h e he) w⟩
theorem md_start {post : St1 → Prop} {q : Int32} {a1 a2 a3 a4 a5 a6 a7 a8 a9 a10 a11 : Nat → Int32} (Src : Nat → Prop) (Edge : Nat → Nat → Prop) (H : ∀ b6 b7, (∀ e, e < 8 → b7 e = 0) → md_SI Src Edge 0 b6 b7 a8 → post (nI 0, a1, a2, a3, a4, a5, b6, b7, a8, a9, a10, a11)) : wpX_startSearch post (q, a1, a2, a3, a4, a5, a6, a7, a8, a9, a10, a11) :=
  ⟨9, md_ss7 (q := nI 0) (fun b6 b7 h => H b6 b7 h (md_SI_0 Src Edge b6 a8 h)) 9 0 a6 a7 (by omega) (by omega) (fun e he => absurd he (by omega))⟩
theorem md_SI_put {Src : Nat → Prop} {Edge : Nat → Nat → Prop} {m : Nat} {b6 b7 b8 : Nat → Int32} (h : md_SI Src Edge m b6 b7 b8) {e : Nat} (he : e < 8) (h0 : b7 e = 0) {fr : Int32}
    (hf : (fr = -1 ∧ Src e) ∨ ∃ f, f < 8 ∧ fr = nI f ∧ ¬ b7 f = 0 ∧ Edge f e) : md_SI Src Edge (m + 1) (upd b6 e fr) (upd b7 e 1) (upd b8 m (nI e)) := by
  obtain ⟨h1, h2, pos, h3⟩ := h
  have up : ∀ z, ¬ b7 z = 0 → ¬ upd b7 e 1 z = 0 := by
    intro z hz
    rcases Classical.em (z = e) with w | w
    · subst w
      exact absurd h0 hz
    · rw [pk_un w]
      exact hz
  have ue : ¬ upd b7 e 1 e = 0 := by
    rw [pk_us]
    decide
  refine ⟨?_, fun j hj => ?_, md_up pos e m, fun z hz hr => ?_⟩
  · rw [h1]
    refine (md_cnt_ins he (fun w => w h0) ue (fun j _ n => ?_)).symm
    rw [pk_un n]
  · rcases Classical.em (j = m) with w | w
    · subst w
      exact ⟨e, he, pk_us, ue⟩
    · obtain ⟨x, x1, x2, x3⟩ := h2 j (by omega)
      exact ⟨x, x1, by rw [pk_un w]; exact x2, up x x3⟩
  · rcases Classical.em (z = e) with w | w
    · subst w
      rw [md_up_s, pk_us]
      refine ⟨by omega, ?_⟩
      rcases hf with hf | ⟨f, f1, f2, f3, f4⟩
      · exact Or.inl hf
      · refine Or.inr ⟨f, f1, f2, up f f3, ?_, f4⟩
        have : f ≠ z := fun w => f3 (by rw [w]; exact h0)
        rw [md_up_n _ _ this]
        exact (h3 f f1 f3).1
    · rw [md_up_n _ _ w, pk_un w]
      rw [pk_un w] at hr
      obtain ⟨p1, p2⟩ := h3 z hz hr
      refine ⟨by omega, ?_⟩
      rcases p2 with p2 | ⟨f, f1, f2, f3, f4, f5⟩
      · exact Or.inl p2
      · have : f ≠ e := fun w => f3 (by rw [w]; exact h0)
        exact Or.inr ⟨f, f1, f2, up f f3, by rw [md_up_n _ _ this]; exact f4, f5⟩
theorem md_reach {post : St1 → Prop} {a1 a2 a3 a4 a5 a6 a7 a8 a9 a10 a11 : Nat → Int32} {Src : Nat → Prop} {Edge : Nat → Nat → Prop} {m e : Nat} {fr : Int32} (he : e < 8) (hI : md_SI Src Edge m a6 a7 a8)
    (hf : (fr = -1 ∧ Src e) ∨ ∃ f, f < 8 ∧ fr = nI f ∧ ¬ a7 f = 0 ∧ Edge f e)
    (H : ∀ m' b6 b7 b8, md_SI Src Edge m' b6 b7 b8 → (∀ z, ¬ a7 z = 0 → ¬ b7 z = 0) → ¬ b7 e = 0 → (a7 e = 0 → b8 m = nI e) → post (nI m', a1, a2, a3, a4, a5, b6, b7, b8, a9, a10, a11)) : wpX_reach post (nI m, a1, a2, a3, a4, a5, a6, a7, a8, a9, a10, a11) (nI e) fr := by
  unfold wpX_reach
  rw [nI_clamp (show e < 2 ^ 31 by omega)]
  refine ⟨vp_in_nI he (by decide), br_c (fun z => ?_) (fun z => H m a6 a7 a8 hI (fun _ h => h) z (fun w => absurd w z))⟩
  have hm : m < 8 := by
    rw [hI.1]
    exact md_cnt_lt he (fun w => w z)
  refine ⟨vp_in_nI he (by decide), nm_e ⟨vp_in_nI he (by decide), nm_e ⟨vp_in_nI hm (by decide), nm_e (nm_r (nI_1 m) ?_)⟩⟩⟩
  rw [nI_clamp (show m < 2 ^ 31 by omega)]
  refine H (m + 1) _ _ _ (md_SI_put hI he z hf) (fun y hy => ?_) ?_ (fun _ => pk_us)
  · rcases Classical.em (y = e) with w | w
    · rw [w, pk_us]
      decide
    · rw [pk_un w]
      exact hy
  · rw [pk_us]
    decide
/-! ===== a way back to a source ===== -/
def md_P (b6 : Nat → Int32) (z : Nat) : Nat := if b6 z = -1 then 8 else (b6 z).toNatClampNeg
def md_Ch (Src : Nat → Prop) (Edge : Nat → Nat → Prop) (R : Nat → Prop) (P pos : Nat → Nat) : Prop :=
  ∀ e, e < 8 → R e → pos e < 8 ∧ ((8 ≤ P e ∧ Src e) ∨ (P e < 8 ∧ R (P e) ∧ pos (P e) < pos e ∧ Edge (P e) e))
theorem md_nIm {f : Nat} (h : f < 8) : ¬ nI f = -1 := by
  intro z
  have t := nI_pos (n := f) (by omega)
  rw [z] at t
  exact t (by decide)
theorem md_SI_ch {Src : Nat → Prop} {Edge : Nat → Nat → Prop} {m : Nat} {b6 b7 b8 : Nat → Int32} (h : md_SI Src Edge m b6 b7 b8) : ∃ pos, md_Ch Src Edge (fun e => ¬ b7 e = 0) (md_P b6) pos := by
  have h8 := md_SI_8 h
  obtain ⟨_, _, pos, h3⟩ := h
  refine ⟨pos, fun e he hr => ?_⟩
  obtain ⟨p1, p2⟩ := h3 e he hr
  refine ⟨by omega, ?_⟩
  unfold md_P
  rcases p2 with p2 | ⟨f, f1, f2, f3, f4, f5⟩
  · rw [if_pos p2.1]
    exact Or.inl ⟨by omega, p2.2⟩
  · have e1 : ¬ b6 e = -1 := by
      rw [f2]
      exact md_nIm f1
    rw [if_neg e1, f2, nI_clamp (show f < 2 ^ 31 by omega)]
    exact Or.inr ⟨f1, f3, f4, f5⟩
/-- what stands in reachedFrom, by the number of the parent -/
theorem md_P_val {Src : Nat → Prop} {Edge : Nat → Nat → Prop} {m : Nat} {b6 b7 b8 : Nat → Int32} (h : md_SI Src Edge m b6 b7 b8) {e : Nat} (he : e < 8) (hr : ¬ b7 e = 0) : (md_P b6 e < 8 ∧ b6 e = nI (md_P b6 e)) ∨ (8 ≤ md_P b6 e ∧ b6 e = -1) := by
  obtain ⟨_, _, pos, h3⟩ := h
  obtain ⟨_, p2⟩ := h3 e he hr
  unfold md_P
  rcases p2 with p2 | ⟨f, f1, f2, f3, f4, f5⟩
  · rw [if_pos p2.1]
    exact Or.inr ⟨by omega, p2.1⟩
  · have e1 : ¬ b6 e = -1 := by
      rw [f2]
      exact md_nIm f1
    rw [if_neg e1, f2, nI_clamp (show f < 2 ^ 31 by omega)]
    exact Or.inl ⟨f1, rfl⟩
end
section
/-! ===== pushAlong ===== -/
def md_pu (P : Nat → Nat) : Nat → (Nat → Nat) → Nat → Nat → (Nat → Nat)
  | 0 => fun cls _ _ => cls
  | n + 1 => fun cls e c => if e < 8 then md_pu P n (md_up cls e c) (P e) (cls e) else cls
theorem md_pu_ge {P : Nat → Nat} {n : Nat} {cls : Nat → Nat} {e c : Nat} (h : 8 ≤ e) : md_pu P n cls e c = cls := by
  cases n with
  | zero => rfl
  | succ n => exact if_neg (by omega)
theorem md_pu_lt {P : Nat → Nat} {n : Nat} {cls : Nat → Nat} {e c : Nat} (h : e < 8) : md_pu P (n + 1) cls e c = md_pu P n (md_up cls e c) (P e) (cls e) := if_pos h
theorem md_pa8 {post : St1 → Prop} {q : Int32} {a1 a2 a3 a4 a6 a7 a8 a9 a10 a11 : Nat → Int32} {R : Nat → Prop} {pos : Nat → Nat}
    (hC : ∀ e, e < 8 → R e → (a6 e = -1 ∧ 8 ≤ md_P a6 e) ∨ (a6 e = nI (md_P a6 e) ∧ md_P a6 e < 8 ∧ R (md_P a6 e) ∧ pos (md_P a6 e) < pos e)) :
    ∀ n i cls e c a5 x, i ≤ 8 → 8 - i < n → (∀ z, z < 8 → a5 z = nI (cls z)) → ((e < 8 ∧ x = nI e ∧ R e ∧ pos e + i ≤ 7) ∨ (8 ≤ e ∧ x = -1)) →
    (∀ b5, (∀ z, z < 8 → b5 z = nI (md_pu (md_P a6) n cls e c z)) → post (q, a1, a2, a3, a4, b5, a6, a7, a8, a9, a10, a11)) → wX_pushAlong_8 post q n x (nI c) (nI i) a1 a2 a3 a4 a5 a6 a7 a8 a9 a10 a11 := by
  intro n
  induction n with
  | zero => intro i cls e c a5 x _ h; omega
  | succ n ih =>
    intro i cls e c a5 x hi hn ha hx H
    rcases hx with ⟨he, rfl, hr, hp⟩ | ⟨he, rfl⟩
    · refine br_f (nI_ge (b := 8) (by omega) (by decide)) (br_f (nI_pos (by omega)) ⟨vp_in_nI he (by decide), ?_⟩)
      rw [nI_clamp (show e < 2 ^ 31 by omega)]
      refine nm_r (ha e he) ⟨vp_in_nI he (by decide), nm_e ⟨vp_in_nI he (by decide), nm_e (nm_r (nI_1 i) ?_)⟩⟩
      refine ih (i + 1) (md_up cls e c) (md_P a6 e) (cls e) _ _ (by omega) (by omega) ?_ ?_ ?_
      · intro z hz
        rcases Classical.em (z = e) with w | w
        · rw [w, pk_us, md_up_s]
        · rw [pk_un w, md_up_n _ _ w]
          exact ha z hz
      · rcases hC e he hr with h | ⟨h1, h2, h3, h4⟩
        · exact Or.inr ⟨h.2, h.1⟩
        · exact Or.inl ⟨h2, h1, h3, by omega⟩
      · intro b5 hb
        refine H b5 (fun z hz => ?_)
        rw [md_pu_lt he]
        exact hb z hz
    · have hp : post (q, a1, a2, a3, a4, a5, a6, a7, a8, a9, a10, a11) := H a5 (fun z hz => by rw [md_pu_ge he]; exact ha z hz)
      exact br_c (fun _ => hp) (fun _ => br_t (by decide) hp)
theorem md_pushA {post : St1 → Prop} {q : Int32} {a1 a2 a3 a4 a5 a6 a7 a8 a9 a10 a11 : Nat → Int32} {Src : Nat → Prop} {Edge : Nat → Nat → Prop} {m : Nat} {cls : Nat → Nat} {e c : Nat} (hI : md_SI Src Edge m a6 a7 a8) (he : e < 8) (hr : ¬ a7 e = 0) (ha : ∀ z, z < 8 → a5 z = nI (cls z))
    (H : ∀ b5, (∀ z, z < 8 → b5 z = nI (md_pu (md_P a6) 9 cls e c z)) → post (q, a1, a2, a3, a4, b5, a6, a7, a8, a9, a10, a11)) : wpX_pushAlong post (q, a1, a2, a3, a4, a5, a6, a7, a8, a9, a10, a11) (nI e) (nI c) := by
  obtain ⟨pos, hC⟩ := md_SI_ch hI
  refine ⟨9, md_pa8 (R := fun e => ¬ a7 e = 0) (pos := pos) (fun z hz hz' => ?_) 9 0 cls e c a5 _ (by omega) (by omega) ha (Or.inl ⟨he, rfl, hr, ?_⟩) H⟩
  · rcases md_P_val hI hz hz' with w | w
    · rcases (hC z hz hz').2 with y | y
      · exact absurd y.1 (by omega)
      · exact Or.inr ⟨w.2, w.1, y.2.1, y.2.2.1⟩
    · exact Or.inl ⟨w.2, w.1⟩
  · have := (hC e he hr).1
    omega
/-! ===== reachInClasses ===== -/
/-- the edges of the search for a place -/
def md_E2 (V cls : Nat → Nat) (f o : Nat) : Prop := cls o ≠ 0 ∧ cls o ≠ cls f ∧ md_ind V (fun z => (cls z = cls o ∨ z = f) ∧ z ≠ o)
/-- what classOf holds, as numbers -/
def md_cl (cls : Nat → Nat) (b5 : Nat → Int32) : Prop := ∀ z, z < 8 → b5 z = nI (cls z) ∧ cls z ≤ 2
theorem md_cl_eq {cls : Nat → Nat} {b5 : Nat → Int32} (h : md_cl cls b5) {z c : Nat} (hz : z < 8) (hc : c ≤ 3) : b5 z = nI c ↔ cls z = c := by
  have := (h z hz).2
  rw [(h z hz).1]
  exact nI_eq (by omega) (by omega)
theorem md_ric2 {post : St1 → Prop} {a1 a2 a3 a5 a9 a10 a11 : Nat → Int32} {V cls : Nat → Nat} {Src : Nat → Prop} {e : Nat} (hV : ∀ e, e < 8 → V e < 32) (h1 : ∀ e, e < 8 → a1 e = nI (V e)) (hc : md_cl cls a5) (he : e < 8)
    (H : ∀ m b4 b6 b7 b8, md_SI Src (md_E2 V cls) m b6 b7 b8 → post (nI m, a1, a2, a3, b4, a5, b6, b7, b8, a9, a10, a11)) :
    ∀ n i m a4 a6 a7 a8, i ≤ 8 → 8 - i < n → md_SI Src (md_E2 V cls) m a6 a7 a8 → ¬ a7 e = 0 → wX_reachInClasses_2 post (nI e) n (nI i) (nI m) a1 a2 a3 a4 a5 a6 a7 a8 a9 a10 a11 := by
  intro n
  induction n with
  | zero => intro i m a4 a6 a7 a8 _ h; omega
  | succ n ih =>
    intro i m a4 a6 a7 a8 hi hn hI hr
    rcases Nat.lt_or_ge i 8 with z | z
    · have ci := hc i z
      have ce := hc e he
      refine br_f (nI_ge (b := 8) z (by decide)) ⟨vp_in_nI z (by decide), ?_⟩
      rw [nI_clamp (show i < 2 ^ 31 by omega), nI_clamp (show e < 2 ^ 31 by omega)]
      have next : ∀ b4, wX_reachInClasses_2 post (nI e) n (nI (i + 1)) (nI m) a1 a2 a3 b4 a5 a6 a7 a8 a9 a10 a11 := fun b4 => ih (i + 1) m b4 a6 a7 a8 (by omega) (by omega) hI hr
      refine pk_le (cls i) 0 (fun _ => nm_r (nI_1 i) (next a4)) (fun g1 => ⟨vp_in_nI z (by decide), vp_in_nI he (by decide), ?_⟩) ci.1 rfl
      refine pk_eq (cls i) (cls e) (fun _ => nm_r (nI_1 i) (next a4)) (fun g2 => ⟨vp_in_nI z (by decide), ?_⟩) ci.1 ce.1
      refine br_c (fun g3 => ⟨vp_in_nI z (by decide), ?_⟩) (fun _ => nm_r (nI_1 i) (next a4))
      refine md_members (fun r hR => ?_)
      refine md_isInd hV h1 (fun hind b4 => ?_) (fun _ b4 => br_t rfl (nm_r (nI_1 i) (next b4)))
      refine br_f (by decide) ?_
      have hE : md_E2 V cls e i := by
        refine ⟨by omega, g2, (md_ind_congr (fun y hy => ?_)).mp hind⟩
        rw [md_M_del _ (by omega) (by omega), md_M_ins _ (by omega) (by omega), hR y (by omega), ci.1, md_cl_eq hc hy (by omega)]
        constructor
        · intro w
          exact ⟨w.1.elim (fun u => Or.inl u.2) Or.inr, w.2⟩
        · intro w
          exact ⟨w.1.elim (fun u => Or.inl ⟨hy, u⟩) Or.inr, w.2⟩
      refine md_reach z hI (Or.inr ⟨e, he, rfl, hr, hE⟩) (fun m' b6 b7 b8 hI' hm _ _ => ?_)
      exact nm_r (nI_1 i) (ih (i + 1) m' b4 b6 b7 b8 (by omega) (by omega) hI' (hm e hr))
    · have e' : i = 8 := by omega
      subst e'
      exact br_t (nI_le (a := 8) (by omega) (by decide)) (H m a4 a6 a7 a8 hI)
theorem md_ric {post : St1 → Prop} {a1 a2 a3 a4 a5 a6 a7 a8 a9 a10 a11 : Nat → Int32} {V cls : Nat → Nat} {Src : Nat → Prop} {e m : Nat} (hV : ∀ e, e < 8 → V e < 32) (h1 : ∀ e, e < 8 → a1 e = nI (V e)) (hc : md_cl cls a5) (he : e < 8)
    (hI : md_SI Src (md_E2 V cls) m a6 a7 a8) (hr : ¬ a7 e = 0)
    (H : ∀ m b4 b6 b7 b8, md_SI Src (md_E2 V cls) m b6 b7 b8 → post (nI m, a1, a2, a3, b4, a5, b6, b7, b8, a9, a10, a11)) : wpX_reachInClasses post (nI m, a1, a2, a3, a4, a5, a6, a7, a8, a9, a10, a11) (nI e) :=
  ⟨9, md_ric2 hV h1 hc he H 9 0 m a4 a6 a7 a8 (by omega) (by omega) hI hr⟩
/-! ===== place ===== -/
/-- those of number c, and e more -/
def md_ce (cls : Nat → Nat) (c e : Nat) : Nat → Prop := fun z => cls z = c ∨ z = e
theorem md_pl36 {post : Int32 → St1 → Prop} {J : Int32 → Int32 → (Nat → Int32) → (Nat → Int32) → (Nat → Int32) → (Nat → Int32) → (Nat → Int32) → (Nat → Int32) → (Nat → Int32) → (Nat → Int32) → (Nat → Int32) → (Nat → Int32) → (Nat → Int32) → Prop}
    {a1 a2 a3 a5 a6 a7 a8 a9 a10 a11 : Nat → Int32} {V cls : Nat → Nat} {Src : Nat → Prop} {e m k : Nat} (hV : ∀ e, e < 8 → V e < 32) (h1 : ∀ e, e < 8 → a1 e = nI (V e)) (hc : md_cl cls a5) (he : e < 8)
    (hI : md_SI Src (md_E2 V cls) m a6 a7 a8) (hr : ¬ a7 e = 0)
    (HJ : (∀ c, c = 1 ∨ c = 2 → cls e = c ∨ ¬ md_ind V (md_ce cls c e)) → ∀ m b4 b6 b7 b8, md_SI Src (md_E2 V cls) m b6 b7 b8 → J (nI (k + 1)) (nI m) a1 a2 a3 b4 a5 b6 b7 b8 a9 a10 a11)
    (H1 : ∀ c b4 b5, c = 1 ∨ c = 2 → cls e ≠ c → md_ind V (md_ce cls c e) → (∀ z, z < 8 → b5 z = nI (md_pu (md_P a6) 9 cls e c z)) → post 1 (nI m, a1, a2, a3, b4, b5, a6, a7, a8, a9, a10, a11)) :
    ∀ n d a4, 1 ≤ d → d ≤ 3 → 3 - d < n → (∀ c, c = 1 ∨ c = 2 → c < d → cls e = c ∨ ¬ md_ind V (md_ce cls c e)) → wX_place_36 post J (nI k) (nI e) n (nI d) (nI m) a1 a2 a3 a4 a5 a6 a7 a8 a9 a10 a11 := by
  intro n
  induction n with
  | zero => intro d a4 _ _ h; omega
  | succ n ih =>
    intro d a4 hd1 hd3 hn hf
    rcases Nat.lt_or_ge d 3 with z | z
    · refine br_f (nI_ge (b := 3) z (by decide)) ?_
      refine md_members (fun r hR => ⟨vp_in_nI he (by decide), ?_⟩)
      rw [nI_clamp (show e < 2 ^ 31 by omega)]
      have ce := hc e he
      have hM : ∀ y, y < 8 → (md_M (r ||| ((1 : Int32) <<< (nI e &&& 31))) y ↔ md_ce cls d e y) := by
        intro y hy
        rw [md_M_ins _ (by omega) (by omega), hR y (by omega), md_cl_eq hc hy (by omega)]
        exact ⟨fun w => w.elim (fun u => Or.inl u.2) Or.inr, fun w => w.elim (fun u => Or.inl ⟨hy, u⟩) Or.inr⟩
      have next : (cls e = d ∨ ¬ md_ind V (md_ce cls d e)) → ∀ b4, wX_place_36 post J (nI k) (nI e) n (nI (d + 1)) (nI m) a1 a2 a3 b4 a5 a6 a7 a8 a9 a10 a11 := by
        intro hd b4
        refine ih (d + 1) b4 (by omega) (by omega) (by omega) (fun c hc' hcd => ?_)
        rcases Nat.lt_or_ge c d with w | w
        · exact hf c hc' w
        · have : c = d := by omega
          subst this
          exact hd
      refine pk_eq (cls e) d (fun g => nm_r (nI_1 d) (next (Or.inl g) a4)) (fun g => ?_) ce.1 rfl
      refine md_isInd hV h1 (fun hind b4 => ?_) (fun hind b4 => br_t rfl (nm_r (nI_1 d) (next (Or.inr (fun w => hind ((md_ind_congr hM).mpr w))) b4)))
      refine br_f (by decide) ?_
      refine md_pushA hI he hr (fun z hz => (hc z hz).1) (fun b5 hb => ?_)
      exact H1 d b4 b5 (by omega) g ((md_ind_congr hM).mp hind) hb
    · have e' : d = 3 := by omega
      subst e'
      refine br_t (nI_le (a := 3) (by omega) (by decide)) ?_
      refine md_ric hV h1 hc he hI hr (fun m' b4 b6 b7 b8 hI' => ?_)
      exact nm_r (nI_1 k) (HJ (fun c hc' => hf c hc' (by omega)) m' b4 b6 b7 b8 hI')
/-- both direct tests have failed -/
def md_DF (V cls : Nat → Nat) (s : Nat) : Prop := ¬ md_ind V (md_ce cls 1 s) ∧ ¬ md_ind V (md_ce cls 2 s)
/-- what a place that was found shows -/
def md_Fnd (V cls : Nat → Nat) (s e c : Nat) (cls' : Nat → Nat) : Prop :=
  ∃ R P pos, md_Ch (fun z => z = s) (md_E2 V cls) R P pos ∧ e < 8 ∧ R e ∧ (c = 1 ∨ c = 2) ∧ cls e ≠ c ∧ md_ind V (md_ce cls c e) ∧ (e = s ∨ md_DF V cls s) ∧ ∀ z, z < 8 → cls' z = md_pu P 9 cls e c z
theorem md_pl12 {post : Int32 → St1 → Prop} {a1 a2 a3 a5 a9 a10 a11 : Nat → Int32} {V cls : Nat → Nat} {s : Nat} (hV : ∀ e, e < 8 → V e < 32) (h1 : ∀ e, e < 8 → a1 e = nI (V e)) (hc : md_cl cls a5) (hs : s < 8) (hs0 : cls s = 0)
    (H0 : md_DF V cls s → ∀ m b4 b6 b7 b8, post 0 (nI m, a1, a2, a3, b4, a5, b6, b7, b8, a9, a10, a11))
    (H1 : ∀ e c cls', md_Fnd V cls s e c cls' → ∀ m b4 b5 b6 b7 b8, (∀ z, z < 8 → b5 z = nI (cls' z)) → post 1 (nI m, a1, a2, a3, b4, b5, b6, b7, b8, a9, a10, a11)) :
    ∀ n k m a4 a6 a7 a8, k ≤ 8 → 8 - k < n → md_SI (fun z => z = s) (md_E2 V cls) m a6 a7 a8 → (k = 0 → a8 0 = nI s ∧ 0 < m) → (0 < k → md_DF V cls s) → wX_place_12 post n (nI k) (nI m) a1 a2 a3 a4 a5 a6 a7 a8 a9 a10 a11 := by
  intro n
  induction n with
  | zero => intro k m a4 a6 a7 a8 _ h; omega
  | succ n ih =>
    intro k m a4 a6 a7 a8 hk hn hI hk0 hkp
    have hm8 := md_SI_8 hI
    refine pk_le m k (fun g => ?_) (fun g => ?_)
    · refine H0 (hkp ?_) m a4 a6 a7 a8
      rcases Nat.eq_zero_or_pos k with w | w
      · have := (hk0 w).2
        omega
      · exact w
    · refine br_f (nI_ge (b := 8) (by omega) (by decide)) ⟨vp_in_nI (by omega) (by decide), ?_⟩
      rw [nI_clamp (show k < 2 ^ 31 by omega)]
      obtain ⟨e, he, e8, hr⟩ := hI.2.1 k g
      have hes : k = 0 → e = s := by
        intro w
        have t := (hk0 w).1
        rw [w, t] at e8
        exact ((nI_eq (by omega) (by omega)).mp e8).symm
      refine nm_r e8 ⟨3, ?_⟩
      refine md_pl36 hV h1 hc he hI hr (fun hf m' b4 b6 b7 b8 hI' => ?_) (fun c b4 b5 hcc hne hind hb => ?_) 3 1 a4 (by omega) (by omega) (by omega) (fun c _ h => absurd h (by omega))
      · refine ih (k + 1) m' b4 b6 b7 b8 (by omega) (by omega) hI' (fun w => absurd w (by omega)) (fun _ => ?_)
        rcases Nat.eq_zero_or_pos k with w | w
        · have t := hes w
          subst t
          exact ⟨(hf 1 (Or.inl rfl)).elim (fun u => absurd u (by omega)) id, (hf 2 (Or.inr rfl)).elim (fun u => absurd u (by omega)) id⟩
        · exact hkp w
      · obtain ⟨pos, hC⟩ := md_SI_ch hI
        refine H1 e c (md_pu (md_P a6) 9 cls e c) ⟨_, md_P a6, pos, hC, he, hr, hcc, hne, hind, ?_, fun _ _ => rfl⟩ m b4 b5 a6 a7 a8 hb
        rcases Nat.eq_zero_or_pos k with w | w
        · exact Or.inl (hes w)
        · exact Or.inr (hkp w)
theorem md_place {post : Int32 → St1 → Prop} {q : Int32} {a1 a2 a3 a4 a5 a6 a7 a8 a9 a10 a11 : Nat → Int32} {V cls : Nat → Nat} {s : Nat} (hV : ∀ e, e < 8 → V e < 32) (h1 : ∀ e, e < 8 → a1 e = nI (V e)) (hc : md_cl cls a5) (hs : s < 8) (hs0 : cls s = 0)
    (H0 : md_DF V cls s → ∀ m b4 b6 b7 b8, post 0 (nI m, a1, a2, a3, b4, a5, b6, b7, b8, a9, a10, a11))
    (H1 : ∀ e c cls', md_Fnd V cls s e c cls' → ∀ m b4 b5 b6 b7 b8, (∀ z, z < 8 → b5 z = nI (cls' z)) → post 1 (nI m, a1, a2, a3, b4, b5, b6, b7, b8, a9, a10, a11)) : wpX_place post (q, a1, a2, a3, a4, a5, a6, a7, a8, a9, a10, a11) (nI s) := by
  unfold wpX_place
  refine md_start (fun z => z = s) (md_E2 V cls) (fun b6 b7 h7 hI => ?_)
  refine md_reach hs hI (Or.inl ⟨rfl, rfl⟩) (fun m' c6 c7 c8 hI' _ hr h8 => ?_)
  refine ⟨9, md_pl12 hV h1 hc hs hs0 H0 H1 9 0 m' a4 c6 c7 c8 (by omega) (by omega) hI' (fun _ => ⟨h8 (h7 s hs), ?_⟩) (fun w => absurd w (by omega))⟩
  rw [hI'.1]
  exact md_cnt_pos (f := fun e => ¬ c7 e = 0) hs hr
end
section
/-! ===== what pushAlong does to the classes ===== -/
theorem md_cnt_at {f : Nat → Prop} {n e : Nat} (he : e < n) : md_cnt f n = md_cnt (fun j => f j ∧ j ≠ e) n + md_b (f e) := by
  rcases Classical.em (f e) with z | z
  · rw [md_cnt_rem he z, md_b_t z]
  · rw [md_b_f z]
    exact md_cnt_congr (fun j _ => ⟨fun w => ⟨w, fun u => z (by rw [← u]; exact w)⟩, fun w => w.1⟩)
theorem md_cnt_up {cls : Nat → Nat} {e c x : Nat} (he : e < 8) : md_cnt (fun z => md_up cls e c z = x) 8 + md_b (cls e = x) = md_cnt (fun z => cls z = x) 8 + md_b (c = x) := by
  have e1 := md_cnt_at (f := fun z => md_up cls e c z = x) he
  have e2 := md_cnt_at (f := fun z => cls z = x) he
  have e3 : md_cnt (fun j => md_up cls e c j = x ∧ j ≠ e) 8 = md_cnt (fun j => cls j = x ∧ j ≠ e) 8 := by
    refine md_cnt_congr (fun j _ => ?_)
    constructor
    · intro w
      have u := w.1
      rw [md_up_n cls c w.2] at u
      exact ⟨u, w.2⟩
    · intro w
      refine ⟨?_, w.2⟩
      rw [md_up_n cls c w.2]
      exact w.1
  have e4 : md_b (md_up cls e c e = x) = md_b (c = x) := by rw [md_up_s]
  omega
theorem md_pu_cnt {V cls : Nat → Nat} {s x : Nat} {R : Nat → Prop} {P pos : Nat → Nat} (hC : md_Ch (fun z => z = s) (md_E2 V cls) R P pos) (hs0 : cls s = 0) (hx : x ≠ 0) :
    ∀ k cur e c, e < 8 → R e → pos e < k → (∀ y, y < 8 → R y → pos y ≤ pos e → cur y = cls y) → md_cnt (fun z => md_pu P k cur e c z = x) 8 = md_cnt (fun z => cur z = x) 8 + md_b (c = x) := by
  intro k
  induction k with
  | zero => intro cur e c _ _ h; omega
  | succ k ih =>
    intro cur e c he hr hp hcur
    rw [md_pu_lt he]
    have up := md_cnt_up (cls := cur) (e := e) (c := c) (x := x) he
    have ce := hcur e he hr (Nat.le_refl _)
    rcases (hC e he hr).2 with ⟨w1, w2⟩ | ⟨w1, w2, w3, w4⟩
    · rw [md_pu_ge w1]
      have w2' : e = s := w2
      rw [ce, w2', hs0, md_b_f (fun z => hx z.symm)] at up
      rw [w2']
      omega
    · rw [ih (md_up cur e c) (P e) (cur e) w1 w2 (by omega) (fun y hy hry hpy => ?_)]
      · omega
      · have : y ≠ e := fun z => by rw [z] at hpy; omega
        rw [md_up_n _ _ this]
        exact hcur y hy hry (by omega)
theorem md_pu_pl {V cls : Nat → Nat} {s : Nat} {R : Nat → Prop} {P pos : Nat → Nat} (hC : md_Ch (fun z => z = s) (md_E2 V cls) R P pos) (hcls : ∀ z, z < 8 → cls z ≤ 2) :
    ∀ k cur e c, e < 8 → R e → pos e < k → (∀ y, y < 8 → R y → pos y ≤ pos e → cur y = cls y) → c ≠ 0 → c ≤ 2 → (∀ z, z < 8 → cur z ≤ 2) → ∀ z, z < 8 → (md_pu P k cur e c z ≠ 0 ↔ cur z ≠ 0 ∨ z = s) ∧ md_pu P k cur e c z ≤ 2 := by
  intro k
  induction k with
  | zero => intro cur e c _ _ h; omega
  | succ k ih =>
    intro cur e c he hr hp hcur hc0 hc2 h2 z hz
    rw [md_pu_lt he]
    have ce := hcur e he hr (Nat.le_refl _)
    rcases (hC e he hr).2 with ⟨w1, w2⟩ | ⟨w1, w2, w3, w4⟩
    · rw [md_pu_ge w1]
      have w2' : e = s := w2
      subst w2'
      rcases Classical.em (z = e) with y | y
      · subst y
        rw [md_up_s]
        omega
      · rw [md_up_n _ _ y]
        have := h2 z hz
        omega
    · have w5 := w4.1
      have t := ih (md_up cur e c) (P e) (cur e) w1 w2 (by omega) (fun y hy hry hpy => ?_) (by omega) (h2 e he) (fun y hy => ?_) z hz
      · refine ⟨t.1.trans ?_, t.2⟩
        rcases Classical.em (z = e) with y | y
        · subst y
          rw [md_up_s]
          omega
        · rw [md_up_n _ _ y]
      · have : y ≠ e := fun z => by rw [z] at hpy; omega
        rw [md_up_n _ _ this]
        exact hcur y hy hry (by omega)
      · rcases Classical.em (y = e) with u | u
        · rw [u, md_up_s]
          exact hc2
        · rw [md_up_n _ _ u]
          exact h2 y hy
/-! ===== at most three placed: independence is kept ===== -/
theorem md_c1 {f : Nat → Prop} {x y : Nat} (hx : x < 8) (hy : y < 8) (fx : f x) (fy : f y) (n1 : y ≠ x) : md_cnt f 8 = md_cnt (fun j => (f j ∧ j ≠ x) ∧ j ≠ y) 8 + 2 := by
  have e1 := md_cnt_rem hx fx
  have e2 := md_cnt_rem (f := fun j => f j ∧ j ≠ x) hy ⟨fy, n1⟩
  omega
theorem md_c2 {f : Nat → Prop} {x y w : Nat} (hx : x < 8) (hy : y < 8) (hw : w < 8) (fx : f x) (fy : f y) (fw : f w) (n1 : y ≠ x) (n2 : w ≠ x) (n3 : w ≠ y) : md_cnt f 8 = md_cnt (fun j => ((f j ∧ j ≠ x) ∧ j ≠ y) ∧ j ≠ w) 8 + 3 := by
  have e1 := md_c1 hx hy fx fy n1
  have e2 := md_cnt_rem (f := fun j => (f j ∧ j ≠ x) ∧ j ≠ y) hw ⟨⟨fw, n2⟩, n3⟩
  omega
theorem md_c3 {f : Nat → Prop} {x y w v : Nat} (hx : x < 8) (hy : y < 8) (hw : w < 8) (hv : v < 8) (fx : f x) (fy : f y) (fw : f w) (fv : f v) (n1 : y ≠ x) (n2 : w ≠ x) (n3 : w ≠ y) (n4 : v ≠ x) (n5 : v ≠ y) (n6 : v ≠ w) : 4 ≤ md_cnt f 8 := by
  have e1 := md_c2 hx hy hw fx fy fw n1 n2 n3
  have e2 := md_cnt_rem (f := fun j => ((f j ∧ j ≠ x) ∧ j ≠ y) ∧ j ≠ w) hv ⟨⟨⟨fv, n4⟩, n5⟩, n6⟩
  omega
theorem md_small {V cls cls' : Nat → Nat} {s e c n : Nat} (hV : ∀ e, e < 8 → V e < 32) (hcls : ∀ z, z < 8 → cls z ≤ 2) (hs : s < 8) (hs0 : cls s = 0) (hn : md_cnt (fun z => cls z ≠ 0) 8 = n) (hn3 : n ≤ 3)
    (hI : ∀ x, x = 1 ∨ x = 2 → md_ind V (fun z => cls z = x)) (hF : md_Fnd V cls s e c cls') :
    (∃ x, (x = 1 ∨ x = 2) ∧ md_ind V (fun z => cls' z = x)) ∧ (n ≤ 2 → ∀ x, x = 1 ∨ x = 2 → md_ind V (fun z => cls' z = x)) := by
  obtain ⟨R, P, pos, hC, he, hr, hc, hne, hind, hdf, hres⟩ := hF
  obtain ⟨d, hd, hcd, hd12⟩ : ∃ d, d = 3 - c ∧ c ≠ d ∧ (d = 1 ∨ d = 2) := ⟨3 - c, rfl, by omega, by omega⟩
  have both : md_ind V (fun z => cls' z = c) → md_ind V (fun z => cls' z = d) → (∃ x, (x = 1 ∨ x = 2) ∧ md_ind V (fun z => cls' z = x)) ∧ (n ≤ 2 → ∀ x, x = 1 ∨ x = 2 → md_ind V (fun z => cls' z = x)) := by
    intro g1 g2
    refine ⟨⟨c, hc, g1⟩, fun _ x hx => ?_⟩
    rcases Classical.em (x = c) with w | w
    · rw [w]; exact g1
    · have : x = d := by omega
      rw [this]; exact g2
  have he2 := hcls e he
  have hIs : ∀ x, x = 1 ∨ x = 2 → e ≠ s → md_sp V (fun z => cls z = x) 8 (V s) := by
    intro x hx hes
    have hdf' := hdf.elim (fun w => absurd w hes) id
    refine md_ind_in (T := md_ce cls x s) hV hs (by omega) (fun i _ => Iff.rfl) (hI x hx) ?_
    rcases hx with w | w
    · rw [w]; exact hdf'.1
    · rw [w]; exact hdf'.2
  rcases (hC e he hr).2 with ⟨w1, w2⟩ | ⟨w1, w2, w3, w4⟩
  · -- direct
    have w2' : e = s := w2
    subst w2'
    have hr' : ∀ z, z < 8 → cls' z = md_up cls e c z := by
      intro z hz
      rw [hres z hz, md_pu_lt (n := 8) he, md_pu_ge w1]
    refine both ((md_ind_congr (fun z hz => ?_)).mpr hind) ((md_ind_congr (fun z hz => ?_)).mpr (hI d hd12))
    · rw [hr' z hz]
      unfold md_ce
      rcases Classical.em (z = e) with y | y
      · subst y
        rw [md_up_s]
        omega
      · rw [md_up_n _ _ y]
        omega
    · rw [hr' z hz]
      rcases Classical.em (z = e) with y | y
      · subst y
        rw [md_up_s]
        omega
      · rw [md_up_n _ _ y]
  · obtain ⟨f1, hf1⟩ : ∃ f1, f1 = P e := ⟨_, rfl⟩
    rw [← hf1] at w1 w2 w3 w4
    obtain ⟨g1, g2, g3⟩ := w4
    have ed : cls e = d := by omega
    have n1 : f1 ≠ e := fun z => by rw [z] at w3; omega
    have es : e ≠ s := fun z => by rw [z] at g1; omega
    rcases (hC f1 w1 w2).2 with ⟨v1, v2⟩ | ⟨v1, v2, v3, v4⟩
    · -- one exchange
      have v2' : f1 = s := v2
      have hr' : ∀ z, z < 8 → cls' z = md_up (md_up cls e c) s d z := by
        intro z hz
        rw [hres z hz, md_pu_lt (n := 8) he, ← hf1, md_pu_lt (n := 7) w1, md_pu_ge v1, ed, v2']
      rw [v2'] at g3 n1
      refine both ((md_ind_congr (fun z hz => ?_)).mpr hind) ((md_ind_congr (fun z hz => ?_)).mpr g3)
      · rw [hr' z hz]
        unfold md_ce
        rcases Classical.em (z = s) with y | y
        · subst y
          rw [md_up_s]
          omega
        · rw [md_up_n _ _ y]
          rcases Classical.em (z = e) with x | x
          · subst x
            rw [md_up_s]
            omega
          · rw [md_up_n _ _ x]
            omega
      · rw [hr' z hz]
        rcases Classical.em (z = s) with y | y
        · subst y
          rw [md_up_s]
          omega
        · rw [md_up_n _ _ y]
          rcases Classical.em (z = e) with x | x
          · subst x
            rw [md_up_s]
            omega
          · rw [md_up_n _ _ x]
            omega
    · obtain ⟨f2, hf2⟩ : ∃ f2, f2 = P f1 := ⟨_, rfl⟩
      rw [← hf2] at v1 v2 v3 v4
      obtain ⟨k1, k2, k3⟩ := v4
      have hf12 := hcls f1 w1
      have fc : cls f1 = c := by omega
      have n2 : f2 ≠ f1 := fun z => by rw [z] at v3; omega
      have n3 : f2 ≠ e := fun z => by rw [z] at v3; omega
      have f1s : f1 ≠ s := fun z => by rw [z] at k1; omega
      rcases (hC f2 v1 v2).2 with ⟨u1, u2⟩ | ⟨u1, u2, u3, u4⟩
      · -- two exchanges
        have u2' : f2 = s := u2
        have hr' : ∀ z, z < 8 → cls' z = md_up (md_up (md_up cls e c) f1 d) s c z := by
          intro z hz
          rw [hres z hz, md_pu_lt (n := 8) he, ← hf1, md_pu_lt (n := 7) w1, ← hf2, md_pu_lt (n := 6) v1, md_pu_ge u1, md_up_n _ _ n1, ed, fc, u2']
        have A : md_ind V (fun z => cls' z = d) := by
          refine (md_ind_congr (fun z hz => ?_)).mpr g3
          rw [hr' z hz]
          rcases Classical.em (z = s) with y | y
          · subst y
            rw [md_up_s]
            omega
          · rw [md_up_n _ _ y]
            rcases Classical.em (z = f1) with x | x
            · subst x
              rw [md_up_s]
              omega
            · rw [md_up_n _ _ x]
              rcases Classical.em (z = e) with t | t
              · subst t
                rw [md_up_s]
                omega
              · rw [md_up_n _ _ t]
                omega
        refine ⟨⟨d, hd12, A⟩, fun hn2 => ?_⟩
        exfalso
        have cnt := md_c1 (f := fun z => cls z ≠ 0) he w1 g1 k1 n1
        have none : ∀ z, z < 8 → z ≠ e → z ≠ f1 → cls z = 0 := by
          intro z hz z1 z2
          rcases Classical.em (cls z = 0) with y | y
          · exact y
          · exact absurd ⟨⟨y, z1⟩, z2⟩ (md_cnt_0 (f := fun j => (cls j ≠ 0 ∧ j ≠ e) ∧ j ≠ f1) (by omega) hz)
        rw [u2'] at k3 n2
        have nz : V s ≠ 0 := md_ind_nz hV hs (show (fun z => (cls z = cls f1 ∨ z = s) ∧ z ≠ f1) s from ⟨Or.inr rfl, n2⟩) k3
        have s1 := md_sp_one (p := f1) (fun z hz hzc => ?_) _ (hIs c hc es)
        · have s2 := md_sp_one (p := e) (fun z hz hzd => ?_) _ (hIs d hd12 es)
          · have out := (md_ind_out (S := fun z => cls z = c) (T := md_ce cls c e) hV he hne (fun i _ => Iff.rfl) hind).1
            have e1 : V s = V f1 := s1.elim (fun z => absurd z nz) id
            have e2 : V s = V e := s2.elim (fun z => absurd z nz) id
            apply out
            rw [← e2, e1]
            exact md_sp_mem w1 fc
          · rcases Classical.em (z = e) with y | y
            · exact y
            · rcases Classical.em (z = f1) with x | x
              · subst x
                omega
              · have := none z hz y x
                omega
        · rcases Classical.em (z = f1) with y | y
          · exact y
          · rcases Classical.em (z = e) with x | x
            · subst x
              omega
            · have := none z hz x y
              omega
      · obtain ⟨f3, hf3⟩ : ∃ f3, f3 = P f2 := ⟨_, rfl⟩
        rw [← hf3] at u1 u2 u3 u4
        obtain ⟨l1, l2, l3⟩ := u4
        have hf22 := hcls f2 v1
        have f2d : cls f2 = d := by omega
        have n4 : f3 ≠ f2 := fun z => by rw [z] at u3; omega
        have n5 : f3 ≠ f1 := fun z => by rw [z] at u3; omega
        have n6 : f3 ≠ e := fun z => by rw [z] at u3; omega
        have f2s : f2 ≠ s := fun z => by rw [z] at l1; omega
        have cnt := md_c2 (f := fun z => cls z ≠ 0) he w1 v1 g1 k1 l1 n1 n3 n2
        rcases (hC f3 u1 u2).2 with ⟨t1, t2⟩ | ⟨t1, t2, t3, t4⟩
        · -- three exchanges
          have t2' : f3 = s := t2
          have hr' : ∀ z, z < 8 → cls' z = md_up (md_up (md_up (md_up cls e c) f1 d) f2 c) s d z := by
            intro z hz
            rw [hres z hz, md_pu_lt (n := 8) he, ← hf1, md_pu_lt (n := 7) w1, ← hf2, md_pu_lt (n := 6) v1, ← hf3, md_pu_lt (n := 5) u1, md_pu_ge t1, md_up_n _ _ n2, md_up_n _ _ n3, md_up_n _ _ n1, ed, fc, f2d, t2']
          have none : ∀ z, z < 8 → z ≠ e → z ≠ f1 → z ≠ f2 → cls z = 0 := by
            intro z hz z1 z2 z3
            rcases Classical.em (cls z = 0) with y | y
            · exact y
            · exact absurd ⟨⟨⟨y, z1⟩, z2⟩, z3⟩ (md_cnt_0 (f := fun j => ((cls j ≠ 0 ∧ j ≠ e) ∧ j ≠ f1) ∧ j ≠ f2) (by omega) hz)
          refine ⟨⟨c, hc, (md_ind_congr (fun z hz => ?_)).mpr (hI d hd12)⟩, fun hn2 => absurd hn2 (by omega)⟩
          rw [hr' z hz]
          rcases Classical.em (z = s) with y | y
          · subst y
            rw [md_up_s]
            omega
          · rw [md_up_n _ _ y]
            rcases Classical.em (z = f2) with x | x
            · subst x
              rw [md_up_s]
              omega
            · rw [md_up_n _ _ x]
              rcases Classical.em (z = f1) with t | t
              · subst t
                rw [md_up_s]
                omega
              · rw [md_up_n _ _ t]
                rcases Classical.em (z = e) with v | v
                · subst v
                  rw [md_up_s]
                  omega
                · rw [md_up_n _ _ v]
                  have := none z hz v t x
                  omega
        · exfalso
          have := md_c3 (f := fun z => cls z ≠ 0) he w1 v1 u1 g1 k1 l1 t4.1 n1 n3 n2 n6 n5 n4
          omega
/-! ===== the invariant of union ===== -/
noncomputable def md_r (V : Nat → Nat) : Nat := md_rho V (fun _ => True)
def md_UI (V : Nat → Nat) (t n : Nat) (cls : Nat → Nat) : Prop :=
  (∀ z, z < 8 → cls z ≤ 2) ∧ (∀ z, t ≤ z → z < 8 → cls z = 0) ∧ n ≤ t ∧ md_cnt (fun z => cls z = 1) 8 + md_cnt (fun z => cls z = 2) 8 = n ∧
  md_cnt (fun z => cls z = 1) 8 ≤ md_r V ∧ md_cnt (fun z => cls z = 2) 8 ≤ md_r V ∧
  (5 ≤ n ∨ ((∀ e, e < t → md_sp V (fun z => cls z ≠ 0) 8 (V e)) ∧ (∃ x, (x = 1 ∨ x = 2) ∧ md_ind V (fun z => cls z = x)) ∧ (n ≤ 3 → ∀ x, x = 1 ∨ x = 2 → md_ind V (fun z => cls z = x))))
theorem md_ind_none {V : Nat → Nat} {S : Nat → Prop} (hV : ∀ e, e < 8 → V e < 32) (h : ∀ j, j < 8 → ¬ S j) : md_ind V S := by
  have c := md_cnt_none h
  have r := md_rho_card (S := S) hV
  unfold md_ind
  omega
theorem md_UI_0 {V : Nat → Nat} (hV : ∀ e, e < 8 → V e < 32) : md_UI V 0 0 (fun _ => 0) := by
  have c1 : md_cnt (fun _ => (0 : Nat) = 1) 8 = 0 := md_cnt_none (fun _ _ => by decide)
  have c2 : md_cnt (fun _ => (0 : Nat) = 2) 8 = 0 := md_cnt_none (fun _ _ => by decide)
  unfold md_UI
  dsimp only
  refine ⟨fun _ _ => by omega, fun _ _ _ => rfl, by omega, by omega, by omega, by omega, Or.inr ⟨fun e he => absurd he (by omega), ⟨1, Or.inl rfl, ?_⟩, fun _ x hx => ?_⟩⟩
  · exact md_ind_none hV (fun _ _ => by decide)
  · exact md_ind_none hV (fun _ _ z => by omega)
theorem md_UI_no {V : Nat → Nat} (hV : ∀ e, e < 8 → V e < 32) {t n : Nat} {cls : Nat → Nat} (ht : t < 8) (h : md_UI V t n cls) (hd : md_DF V cls t) : md_UI V (t + 1) n cls := by
  obtain ⟨h1, h2, h3, h4, h5, h6, h7⟩ := h
  refine ⟨h1, fun z hz => h2 z (by omega), by omega, h4, h5, h6, ?_⟩
  rcases h7 with h7 | ⟨g1, ⟨x, hx, hi⟩, g3⟩
  · exact Or.inl h7
  · refine Or.inr ⟨fun e he => ?_, ⟨x, hx, hi⟩, g3⟩
    rcases Nat.lt_or_ge e t with w | w
    · exact g1 e w
    · have : e = t := by omega
      subst this
      have c0 := h2 e (Nat.le_refl e) ht
      have hin : md_sp V (fun z => cls z = x) 8 (V e) := by
        refine md_ind_in (T := md_ce cls x e) hV ht (by omega) (fun i _ => Iff.rfl) hi ?_
        rcases hx with y | y
        · rw [y]; exact hd.1
        · rw [y]; exact hd.2
      exact md_sp_mono (fun z _ hz => by omega) _ hin
theorem md_UI_yes {V : Nat → Nat} (hV : ∀ e, e < 8 → V e < 32) {t n e c : Nat} {cls cls' : Nat → Nat} (ht : t < 8) (h : md_UI V t n cls) (hF : md_Fnd V cls t e c cls') : md_UI V (t + 1) (n + 1) cls' := by
  obtain ⟨h1, h2, h3, h4, h5, h6, h7⟩ := h
  have hs0 := h2 t (Nat.le_refl t) ht
  have hF0 := hF
  obtain ⟨R, P, pos, hC, he, hr, hc, hne, hind, hdf, hres⟩ := hF
  have hpos := (hC e he hr).1
  have cn : ∀ x, x ≠ 0 → md_cnt (fun z => cls' z = x) 8 = md_cnt (fun z => cls z = x) 8 + md_b (c = x) := by
    intro x hx
    rw [← md_pu_cnt hC hs0 hx 9 cls e c he hr (by omega) (fun _ _ _ _ => rfl)]
    exact md_cnt_congr (fun z hz => by rw [hres z hz])
  have pl : ∀ z, z < 8 → (cls' z ≠ 0 ↔ cls z ≠ 0 ∨ z = t) ∧ cls' z ≤ 2 := by
    intro z hz
    rw [hres z hz]
    exact md_pu_pl hC h1 9 cls e c he hr (by omega) (fun _ _ _ _ => rfl) (by omega) (by omega) h1 z hz
  have n1 := cn 1 (by decide)
  have n2 := cn 2 (by decide)
  have grow : md_cnt (fun z => cls z = c) 8 + 1 ≤ md_r V := by
    have e1 : md_cnt (md_ce cls c e) 8 = md_cnt (fun z => cls z = c) 8 + 1 := md_card_ins (S := fun z => cls z = c) he hne (fun i _ => Iff.rfl)
    have e2 : md_rho V (md_ce cls c e) ≤ md_r V := md_rho_mono (fun _ _ _ => trivial)
    unfold md_ind at hind
    omega
  have bb : md_cnt (fun z => cls' z = 1) 8 + md_cnt (fun z => cls' z = 2) 8 = n + 1 ∧ md_cnt (fun z => cls' z = 1) 8 ≤ md_r V ∧ md_cnt (fun z => cls' z = 2) 8 ≤ md_r V := by
    rcases hc with w | w
    · subst w
      rw [md_b_t rfl] at n1
      rw [md_b_f (by decide)] at n2
      omega
    · subst w
      rw [md_b_f (by decide)] at n1
      rw [md_b_t rfl] at n2
      omega
  refine ⟨fun z hz => (pl z hz).2, fun z hz hz8 => ?_, by omega, bb.1, bb.2.1, bb.2.2, ?_⟩
  · have := (pl z hz8).1
    have := h2 z (by omega) hz8
    omega
  · rcases Nat.lt_or_ge n 4 with w | w
    · rcases h7 with h7 | ⟨g1, g2, g3⟩
      · omega
      · refine Or.inr ⟨fun y hy => ?_, ?_⟩
        · rcases Nat.lt_or_ge y t with u | u
          · exact md_sp_mono (fun z hz hm => ((pl z hz).1).mpr (Or.inl hm)) _ (g1 y u)
          · have : y = t := by omega
            subst this
            exact md_sp_mem ht (((pl y ht).1).mpr (Or.inr rfl))
        · have cP : md_cnt (fun z => cls z ≠ 0) 8 = n := by
            rw [md_cnt_or (f := fun z => cls z = 1) (g := fun z => cls z = 2) (fun j hj => ?_) (fun j _ u => by omega)]
            · exact h4
            · have := h1 j hj
              omega
          have sm := md_small hV h1 ht hs0 cP (by omega) (g3 (by omega)) hF0
          exact ⟨sm.1, fun hn => sm.2 (by omega)⟩
    · exact Or.inl (by omega)
theorem md_UI_end {V : Nat → Nat} (hV : ∀ e, e < 8 → V e < 32) {n : Nat} {cls : Nat → Nat} (h : md_UI V 8 n cls) : md_r V ≤ n ∧ n ≤ 2 * md_r V ∧ n ≤ 8 := by
  obtain ⟨h1, h2, h3, h4, h5, h6, h7⟩ := h
  refine ⟨?_, by omega, h3⟩
  have r5 : md_r V ≤ 5 := md_rho_le5 V _
  rcases h7 with h7 | ⟨g1, _⟩
  · omega
  · have e1 : md_r V ≤ md_rho V (fun z => cls z ≠ 0) := md_rho_span (fun e he _ => g1 e he)
    have e2 := md_rho_card (S := fun z => cls z ≠ 0) hV
    have e3 : md_cnt (fun z => cls z ≠ 0) 8 = n := by
      rw [md_cnt_or (f := fun z => cls z = 1) (g := fun z => cls z = 2) (fun j hj => ?_) (fun j _ u => by omega)]
      · exact h4
      · have := h1 j hj
        omega
    omega
/-! ===== union ===== -/
theorem md_un8 {post : Int32 → St1 → Prop} {a1 a2 a3 a9 a10 a11 : Nat → Int32} {V : Nat → Nat} (hV : ∀ e, e < 8 → V e < 32) (h1 : ∀ e, e < 8 → a1 e = nI (V e))
    (H : ∀ n, md_r V ≤ n → n ≤ 2 * md_r V → n ≤ 8 → ∀ q b4 b5 b6 b7 b8, post (nI n) (q, a1, a2, a3, b4, b5, b6, b7, b8, a9, a10, a11)) :
    ∀ f t n cls q a4 a5 a6 a7 a8, t ≤ 8 → 8 - t < f → md_UI V t n cls → (∀ z, z < 8 → a5 z = nI (cls z)) → wX_union_8 post f (nI n) (nI t) q a1 a2 a3 a4 a5 a6 a7 a8 a9 a10 a11 := by
  intro f
  induction f with
  | zero => intro t n cls q a4 a5 a6 a7 a8 _ h; omega
  | succ f ih =>
    intro t n cls q a4 a5 a6 a7 a8 ht hf hU ha
    rcases Nat.lt_or_ge t 8 with z | z
    · refine br_f (nI_ge (b := 8) z (by decide)) ?_
      refine md_place hV h1 (fun y hy => ⟨ha y hy, hU.1 y hy⟩) z (hU.2.1 t (Nat.le_refl t) z) (fun hd m b4 b6 b7 b8 => ?_) (fun e c cls' hF m b4 b5 b6 b7 b8 hb => ?_)
      · exact br_t rfl (nm_r (e' := nI n) (Int32.add_zero _) (nm_r (nI_1 t) (ih (t + 1) n cls _ b4 a5 b6 b7 b8 (by omega) (by omega) (md_UI_no hV z hU hd) ha)))
      · exact br_f (by decide) (nm_r (nI_1 n) (nm_r (nI_1 t) (ih (t + 1) (n + 1) cls' _ b4 b5 b6 b7 b8 (by omega) (by omega) (md_UI_yes hV z hU hF) hb)))
    · have e : t = 8 := by omega
      subst e
      have t := md_UI_end hV hU
      exact br_t (nI_le (a := 8) (by omega) (by decide)) (H n t.1 t.2.1 t.2.2 q a4 a5 a6 a7 a8)
theorem md_union {post : Int32 → St1 → Prop} {q : Int32} {a1 a2 a3 a4 a5 a6 a7 a8 a9 a10 a11 : Nat → Int32} {V : Nat → Nat} (hV : ∀ e, e < 8 → V e < 32) (h1 : ∀ e, e < 8 → a1 e = nI (V e))
    (H : ∀ n, md_r V ≤ n → n ≤ 2 * md_r V → n ≤ 8 → ∀ q b4 b5 b6 b7 b8, post (nI n) (q, a1, a2, a3, b4, b5, b6, b7, b8, a9, a10, a11)) : wpX_union post (q, a1, a2, a3, a4, a5, a6, a7, a8, a9, a10, a11) := by
  unfold wpX_union
  refine md_clear (fun b5 hb => ?_)
  exact ⟨9, md_un8 hV h1 H 9 0 0 (fun _ => 0) q a4 b5 a6 a7 a8 (by omega) (by omega) (md_UI_0 hV) hb⟩
end
section
/-! ===== differentColours: it answers ===== -/
theorem md_dc4 {post : Int32 → Prop} {q : Int32} {a1 a2 a3 a4 a5 a6 a7 a8 a9 a10 a11 : Nat → Int32} {s : Int32} (H : ∀ r, post r) : ∀ n i x, i ≤ 8 → 8 - i < n → wX_differentColours_4 post s q a1 a2 a3 a4 a5 a6 a7 a8 a9 a10 a11 n x (nI i) := by
  intro n
  induction n with
  | zero => intro i x _ h; omega
  | succ n ih =>
    intro i x hi hn
    rcases Nat.lt_or_ge i 8 with z | z
    · exact br_f (nI_ge (b := 8) z (by decide)) (br_c (fun _ => nm_r (nI_1 i) (ih (i + 1) _ (by omega) (by omega))) (fun _ => ⟨vp_in_nI z (by decide), br_c (fun _ => ⟨vp_in_nI z (by decide), nm_e (nm_r (nI_1 i) (ih (i + 1) _ (by omega) (by omega)))⟩) (fun _ => H 0)⟩))
    · have e : i = 8 := by omega
      subst e
      exact br_t (nI_le (a := 8) (by omega) (by decide)) (H 1)
theorem md_dc {post : Int32 → Prop} {q : Int32} {a1 a2 a3 a4 a5 a6 a7 a8 a9 a10 a11 : Nat → Int32} {s : Int32} (H : ∀ r, post r) : wpX_differentColours post (q, a1, a2, a3, a4, a5, a6, a7, a8, a9, a10, a11) s :=
  ⟨9, md_dc4 H 9 0 0 (by omega) (by omega)⟩
/-! ===== reachByExchange ===== -/
def md_E1 (cls : Nat → Nat) (f o : Nat) : Prop := (cls f = 0 ∧ cls o = 1) ∨ (cls f = 1 ∧ cls o = 0)
def md_cl1 (cls : Nat → Nat) (b5 : Nat → Int32) : Prop := ∀ z, z < 8 → b5 z = nI (cls z) ∧ cls z ≤ 1
theorem md_rx51 {post : St1 → Prop} {J : Int32 → Int32 → (Nat → Int32) → (Nat → Int32) → (Nat → Int32) → (Nat → Int32) → (Nat → Int32) → (Nat → Int32) → (Nat → Int32) → (Nat → Int32) → (Nat → Int32) → (Nat → Int32) → (Nat → Int32) → Prop}
    {a1 a2 a3 a4 a5 a6 a7 a8 a9 a10 a11 : Nat → Int32} {V cls : Nat → Nat} {Src : Nat → Prop} {e m i : Nat} {s : Int32} (hV : ∀ e, e < 8 → V e < 32) (h1 : ∀ e, e < 8 → a1 e = nI (V e)) (hc : md_cl1 cls a5) (he : e < 8) (hi : i < 8)
    (hI : md_SI Src (md_E1 cls) m a6 a7 a8) (hr : ¬ a7 e = 0)
    (HJ : ∀ m b4 b6 b7 b8, md_SI Src (md_E1 cls) m b6 b7 b8 → ¬ b7 e = 0 → J (nI (i + 1)) (nI m) a1 a2 a3 b4 a5 b6 b7 b8 a9 a10 a11) :
    wX_reachByExchange_51 post J (nI e) s (nI i) (nI m) a1 a2 a3 a4 a5 a6 a7 a8 a9 a10 a11 := by
  have ci := hc i hi
  have ce := hc e he
  unfold wX_reachByExchange_51
  rw [nI_clamp (show i < 2 ^ 31 by omega), nI_clamp (show e < 2 ^ 31 by omega)]
  refine ⟨vp_in_nI he (by decide), ?_⟩
  refine pk_eq (cls e) 1 (fun g1 => ⟨vp_in_nI hi (by decide), ?_⟩) (fun _ => nm_r (nI_1 i) (HJ m a4 a6 a7 a8 hI hr)) ce.1 rfl
  refine pk_eq (cls i) 0 (fun g2 => ?_) (fun _ => nm_r (nI_1 i) (HJ m a4 a6 a7 a8 hI hr)) ci.1 rfl
  refine md_isInd hV h1 (fun _ b4 => br_f (by decide) ?_) (fun _ b4 => br_t rfl (nm_r (nI_1 i) (HJ m b4 a6 a7 a8 hI hr)))
  refine md_reach hi hI (Or.inr ⟨e, he, rfl, hr, Or.inr ⟨g1, g2⟩⟩) (fun m' b6 b7 b8 hI' hm _ _ => ?_)
  exact nm_r (nI_1 i) (HJ m' b4 b6 b7 b8 hI' (hm e hr))
theorem md_rx2 {post : St1 → Prop} {a1 a2 a3 a5 a9 a10 a11 : Nat → Int32} {V cls : Nat → Nat} {Src : Nat → Prop} {e : Nat} {s : Int32} (hV : ∀ e, e < 8 → V e < 32) (h1 : ∀ e, e < 8 → a1 e = nI (V e)) (hc : md_cl1 cls a5) (he : e < 8)
    (H : ∀ m b4 b6 b7 b8, md_SI Src (md_E1 cls) m b6 b7 b8 → post (nI m, a1, a2, a3, b4, a5, b6, b7, b8, a9, a10, a11)) :
    ∀ n i m a4 a6 a7 a8, i ≤ 8 → 8 - i < n → md_SI Src (md_E1 cls) m a6 a7 a8 → ¬ a7 e = 0 → wX_reachByExchange_2 post (nI e) s n (nI i) (nI m) a1 a2 a3 a4 a5 a6 a7 a8 a9 a10 a11 := by
  intro n
  induction n with
  | zero => intro i m a4 a6 a7 a8 _ h; omega
  | succ n ih =>
    intro i m a4 a6 a7 a8 hi hn hI hr
    rcases Nat.lt_or_ge i 8 with z | z
    · have ci := hc i z
      have ce := hc e he
      have F : ∀ m a4 a6 a7 a8, md_SI Src (md_E1 cls) m a6 a7 a8 → ¬ a7 e = 0 → wX_reachByExchange_51 post (wX_reachByExchange_2 post (nI e) s n) (nI e) s (nI i) (nI m) a1 a2 a3 a4 a5 a6 a7 a8 a9 a10 a11 := by
        intro m a4 a6 a7 a8 hI hr
        exact md_rx51 hV h1 hc he z hI hr (fun m' b4 b6 b7 b8 hI' hr' => ih (i + 1) m' b4 b6 b7 b8 (by omega) (by omega) hI' hr')
      refine br_f (nI_ge (b := 8) z (by decide)) ⟨vp_in_nI he (by decide), ?_⟩
      rw [nI_clamp (show i < 2 ^ 31 by omega), nI_clamp (show e < 2 ^ 31 by omega)]
      refine pk_eq (cls e) 0 (fun g1 => ⟨vp_in_nI z (by decide), ?_⟩) (fun _ => F m a4 a6 a7 a8 hI hr) ce.1 rfl
      refine pk_eq (cls i) 1 (fun g2 => ?_) (fun _ => F m a4 a6 a7 a8 hI hr) ci.1 rfl
      refine md_dc (fun r => br_c (fun _ => F m a4 a6 a7 a8 hI hr) (fun _ => ?_))
      refine md_reach z hI (Or.inr ⟨e, he, rfl, hr, Or.inl ⟨g1, g2⟩⟩) (fun m' b6 b7 b8 hI' hm _ _ => ?_)
      exact F m' a4 b6 b7 b8 hI' (hm e hr)
    · have e' : i = 8 := by omega
      subst e'
      exact br_t (nI_le (a := 8) (by omega) (by decide)) (H m a4 a6 a7 a8 hI)
theorem md_rx {post : St1 → Prop} {a1 a2 a3 a4 a5 a6 a7 a8 a9 a10 a11 : Nat → Int32} {V cls : Nat → Nat} {Src : Nat → Prop} {e m : Nat} {s : Int32} (hV : ∀ e, e < 8 → V e < 32) (h1 : ∀ e, e < 8 → a1 e = nI (V e)) (hc : md_cl1 cls a5) (he : e < 8)
    (hI : md_SI Src (md_E1 cls) m a6 a7 a8) (hr : ¬ a7 e = 0)
    (H : ∀ m b4 b6 b7 b8, md_SI Src (md_E1 cls) m b6 b7 b8 → post (nI m, a1, a2, a3, b4, a5, b6, b7, b8, a9, a10, a11)) : wpX_reachByExchange post (nI m, a1, a2, a3, a4, a5, a6, a7, a8, a9, a10, a11) (nI e) s :=
  ⟨9, md_rx2 hV h1 hc he H 9 0 m a4 a6 a7 a8 (by omega) (by omega) hI hr⟩
/-! ===== turnRainbow ===== -/
theorem md_tr4 {post : St1 → Prop} {q : Int32} {a1 a2 a3 a4 a6 a7 a8 a9 a10 a11 : Nat → Int32} {cls : Nat → Nat} {Src R : Nat → Prop} {pos : Nat → Nat} (hSrc : ∀ z, Src z → cls z = 0) (hcls : ∀ z, z < 8 → cls z ≤ 1)
    (hC : ∀ e, e < 8 → R e → (a6 e = -1 ∧ Src e) ∨ (a6 e = nI (md_P a6 e) ∧ md_P a6 e < 8 ∧ R (md_P a6 e) ∧ pos (md_P a6 e) < pos e ∧ md_E1 cls (md_P a6 e) e))
    (H : ∀ b5 cls', md_cl1 cls' b5 → md_cnt (fun z => cls' z = 1) 8 = md_cnt (fun z => cls z = 1) 8 + 1 → post (q, a1, a2, a3, a4, b5, a6, a7, a8, a9, a10, a11)) :
    ∀ n i cur a5 x, i ≤ 8 → 8 - i < n → md_cl1 cur a5 → ((∃ e, e < 8 ∧ x = nI e ∧ R e ∧ pos e + i ≤ 7 ∧ (∀ y, y < 8 → R y → pos y ≤ pos e → cur y = cls y) ∧ md_cnt (fun z => cur z = 1) 8 = md_cnt (fun z => cls z = 1) 8 + cls e) ∨ (x = -1 ∧ md_cnt (fun z => cur z = 1) 8 = md_cnt (fun z => cls z = 1) 8 + 1)) →
    wX_turnRainbow_4 post q n x (nI i) a1 a2 a3 a4 a5 a6 a7 a8 a9 a10 a11 := by
  intro n
  induction n with
  | zero => intro i cur a5 x _ h; omega
  | succ n ih =>
    intro i cur a5 x hi hn ha hx
    rcases hx with ⟨e, he, rfl, hr, hp, hcur, hN⟩ | ⟨rfl, hN⟩
    · have ce := hcur e he hr (Nat.le_refl _)
      have c1 := hcls e he
      refine br_f (nI_ge (b := 8) (by omega) (by decide)) (br_f (nI_pos (by omega)) ⟨vp_in_nI he (by decide), vp_in_nI he (by decide), ?_⟩)
      rw [nI_clamp (show e < 2 ^ 31 by omega), (ha e he).1, ce]
      refine nm_r (e' := upd a5 e (nI (1 - cls e))) (by rw [← pk_sub c1]; rfl) ⟨vp_in_nI he (by decide), nm_e (nm_r (nI_1 i) ?_)⟩
      have up := md_cnt_up (cls := cur) (e := e) (c := 1 - cls e) (x := 1) he
      rw [ce] at up
      refine ih (i + 1) (md_up cur e (1 - cls e)) _ _ (by omega) (by omega) (fun z hz => ?_) ?_
      · rcases Classical.em (z = e) with w | w
        · rw [w, pk_us, md_up_s]
          exact ⟨rfl, by omega⟩
        · rw [pk_un w, md_up_n _ _ w]
          exact ha z hz
      · rcases hC e he hr with ⟨w1, w2⟩ | ⟨w1, w2, w3, w4, w5⟩
        · have z0 := hSrc e w2
          rw [z0] at up hN ⊢
          rw [md_b_f (by decide), md_b_t rfl] at up
          exact Or.inr ⟨w1, by omega⟩
        · refine Or.inl ⟨_, w2, w1, w3, by omega, fun y hy hry hpy => ?_, ?_⟩
          · have : y ≠ e := fun z => by rw [z] at hpy; omega
            rw [md_up_n _ _ this]
            exact hcur y hy hry (by omega)
          · rcases w5 with ⟨u1, u2⟩ | ⟨u1, u2⟩
            · rw [u2] at up hN ⊢
              rw [md_b_t rfl, md_b_f (by decide)] at up
              omega
            · rw [u2] at up hN ⊢
              rw [md_b_f (by decide), md_b_t rfl] at up
              omega
    · have hp : post (q, a1, a2, a3, a4, a5, a6, a7, a8, a9, a10, a11) := H a5 cur ha hN
      exact br_c (fun _ => hp) (fun _ => br_t (by decide) hp)
theorem md_turn {post : St1 → Prop} {q : Int32} {a1 a2 a3 a4 a5 a6 a7 a8 a9 a10 a11 : Nat → Int32} {Src : Nat → Prop} {m : Nat} {cls : Nat → Nat} {e : Nat} (hSrc : ∀ z, Src z → cls z = 0) (hI : md_SI Src (md_E1 cls) m a6 a7 a8) (he : e < 8) (hr : ¬ a7 e = 0) (h0 : cls e = 0) (hc : md_cl1 cls a5)
    (H : ∀ b5 cls', md_cl1 cls' b5 → md_cnt (fun z => cls' z = 1) 8 = md_cnt (fun z => cls z = 1) 8 + 1 → post (q, a1, a2, a3, a4, b5, a6, a7, a8, a9, a10, a11)) : wpX_turnRainbow post (q, a1, a2, a3, a4, a5, a6, a7, a8, a9, a10, a11) (nI e) := by
  obtain ⟨pos, hC⟩ := md_SI_ch hI
  refine ⟨9, md_tr4 (R := fun e => ¬ a7 e = 0) (pos := pos) hSrc (fun z hz => (hc z hz).2) (fun z hz hz' => ?_) H 9 0 cls a5 _ (by omega) (by omega) hc (Or.inl ⟨e, he, rfl, hr, ?_, fun _ _ _ _ => rfl, by omega⟩)⟩
  · rcases md_P_val hI hz hz' with w | w
    · rcases (hC z hz hz').2 with y | y
      · exact absurd y.1 (by omega)
      · exact Or.inr ⟨w.2, w.1, y.2.1, y.2.2.1, y.2.2.2⟩
    · rcases (hC z hz hz').2 with y | y
      · exact Or.inl ⟨w.2, y.2⟩
      · exact absurd y.1 (by omega)
  · have := (hC e he hr).1
    omega
/-! ===== growRainbow ===== -/
def md_S1 (V cls : Nat → Nat) (z : Nat) : Prop := z < 8 ∧ cls z = 0 ∧ md_ind V (md_ce cls 1 z)
theorem md_src {V cls : Nat → Nat} {Src : Nat → Prop} {Edge : Nat → Nat → Prop} {R : Nat → Prop} {P pos : Nat → Nat} (hC : md_Ch Src Edge R P pos) : ∀ k e, pos e < k → e < 8 → R e → ∃ z, Src z := by
  intro k
  induction k with
  | zero => intro e h; omega
  | succ k ih =>
    intro e hk he hr
    rcases (hC e he hr).2 with w | w
    · exact ⟨e, w.2⟩
    · exact ih (P e) (by omega) w.1 w.2.1
theorem md_src_r {V cls : Nat → Nat} {z : Nat} (h : md_S1 V cls z) : md_cnt (fun z => cls z = 1) 8 + 1 ≤ md_r V := by
  obtain ⟨h1, h2, h3⟩ := h
  have e1 : md_cnt (md_ce cls 1 z) 8 = md_cnt (fun z => cls z = 1) 8 + 1 := md_card_ins (S := fun z => cls z = 1) h1 (by omega) (fun i _ => Iff.rfl)
  have e2 : md_rho V (md_ce cls 1 z) ≤ md_r V := md_rho_mono (fun _ _ _ => trivial)
  unfold md_ind at h3
  omega
theorem md_gr53 {post : Int32 → St1 → Prop} {a1 a2 a3 a5 a9 a10 a11 : Nat → Int32} {V cls : Nat → Nat} {s : Int32} (hV : ∀ e, e < 8 → V e < 32) (h1 : ∀ e, e < 8 → a1 e = nI (V e)) (hc : md_cl1 cls a5)
    (H0 : ∀ m b4 b6 b7 b8, post 0 (nI m, a1, a2, a3, b4, a5, b6, b7, b8, a9, a10, a11))
    (H1 : md_cnt (fun z => cls z = 1) 8 + 1 ≤ md_r V → ∀ cls' m b4 b5 b6 b7 b8, md_cl1 cls' b5 → md_cnt (fun z => cls' z = 1) 8 = md_cnt (fun z => cls z = 1) 8 + 1 → post 1 (nI m, a1, a2, a3, b4, b5, b6, b7, b8, a9, a10, a11)) :
    ∀ n k m a4 a6 a7 a8, k ≤ 8 → 8 - k < n → md_SI (md_S1 V cls) (md_E1 cls) m a6 a7 a8 → wX_growRainbow_53 post s n (nI k) (nI m) a1 a2 a3 a4 a5 a6 a7 a8 a9 a10 a11 := by
  intro n
  induction n with
  | zero => intro k m a4 a6 a7 a8 _ h; omega
  | succ n ih =>
    intro k m a4 a6 a7 a8 hk hn hI
    have hm8 := md_SI_8 hI
    refine pk_le m k (fun g => H0 m a4 a6 a7 a8) (fun g => ?_)
    refine br_f (nI_ge (b := 8) (by omega) (by decide)) ⟨vp_in_nI (by omega) (by decide), ?_⟩
    rw [nI_clamp (show k < 2 ^ 31 by omega)]
    obtain ⟨e, he, e8, hr⟩ := hI.2.1 k g
    refine nm_r e8 ⟨vp_in_nI he (by decide), ?_⟩
    rw [nI_clamp (show e < 2 ^ 31 by omega)]
    have F : wX_growRainbow_102 post (wX_growRainbow_53 post s n) s (nI k) (nI e) (nI m) a1 a2 a3 a4 a5 a6 a7 a8 a9 a10 a11 := by
      unfold wX_growRainbow_102
      refine md_rx hV h1 hc he hI hr (fun m' b4 b6 b7 b8 hI' => ?_)
      exact nm_r (nI_1 k) (ih (k + 1) m' b4 b6 b7 b8 (by omega) (by omega) hI')
    have c1 := (hc e he).2
    refine pk_eq (cls e) 0 (fun g0 => ?_) (fun _ => F) (hc e he).1 rfl
    refine md_dc (fun r => br_c (fun _ => F) (fun _ => ?_))
    obtain ⟨pos, hC⟩ := md_SI_ch hI
    obtain ⟨z, hz⟩ := md_src (V := V) (cls := cls) hC (pos e + 1) e (by omega) he hr
    refine md_turn (Src := md_S1 V cls) (fun z hz => hz.2.1) hI he hr g0 hc (fun b5 cls' hc' hN => ?_)
    exact H1 (md_src_r hz) cls' m a4 b5 a6 a7 a8 hc' hN
theorem md_gr12 {post : Int32 → St1 → Prop} {a1 a2 a3 a5 a9 a10 a11 : Nat → Int32} {V cls : Nat → Nat} {s : Int32} (hV : ∀ e, e < 8 → V e < 32) (h1 : ∀ e, e < 8 → a1 e = nI (V e)) (hc : md_cl1 cls a5)
    (hs : ∀ j, j < 32 → (md_M s j ↔ j < 8 ∧ a5 j = 1))
    (H0 : ∀ m b4 b6 b7 b8, post 0 (nI m, a1, a2, a3, b4, a5, b6, b7, b8, a9, a10, a11))
    (H1 : md_cnt (fun z => cls z = 1) 8 + 1 ≤ md_r V → ∀ cls' m b4 b5 b6 b7 b8, md_cl1 cls' b5 → md_cnt (fun z => cls' z = 1) 8 = md_cnt (fun z => cls z = 1) 8 + 1 → post 1 (nI m, a1, a2, a3, b4, b5, b6, b7, b8, a9, a10, a11)) :
    ∀ n i m a4 a6 a7 a8, i ≤ 8 → 8 - i < n → md_SI (md_S1 V cls) (md_E1 cls) m a6 a7 a8 → wX_growRainbow_12 post s n (nI i) (nI m) a1 a2 a3 a4 a5 a6 a7 a8 a9 a10 a11 := by
  intro n
  induction n with
  | zero => intro i m a4 a6 a7 a8 _ h; omega
  | succ n ih =>
    intro i m a4 a6 a7 a8 hi hn hI
    rcases Nat.lt_or_ge i 8 with z | z
    · refine br_f (nI_ge (b := 8) z (by decide)) ⟨vp_in_nI z (by decide), ?_⟩
      rw [nI_clamp (show i < 2 ^ 31 by omega)]
      have next : ∀ b4, wX_growRainbow_12 post s n (nI (i + 1)) (nI m) a1 a2 a3 b4 a5 a6 a7 a8 a9 a10 a11 := fun b4 => ih (i + 1) m b4 a6 a7 a8 (by omega) (by omega) hI
      have c1 := (hc i z).2
      refine pk_eq (cls i) 0 (fun g => ?_) (fun _ => nm_r (nI_1 i) (next a4)) (hc i z).1 rfl
      refine md_isInd hV h1 (fun hind b4 => br_f (by decide) ?_) (fun _ b4 => br_t rfl (nm_r (nI_1 i) (next b4)))
      have hS : md_S1 V cls i := by
        refine ⟨z, g, (md_ind_congr (fun y hy => ?_)).mp hind⟩
        have c2 := (hc y hy).2
        rw [md_M_ins _ (by omega) (by omega), hs y (by omega), (hc y hy).1]
        have e : nI (cls y) = 1 ↔ cls y = 1 := nI_eq (b := 1) (by omega) (by omega)
        rw [e]
        exact ⟨fun w => w.elim (fun u => Or.inl u.2) Or.inr, fun w => w.elim (fun u => Or.inl ⟨hy, u⟩) Or.inr⟩
      refine md_reach z hI (Or.inl ⟨rfl, hS⟩) (fun m' b6 b7 b8 hI' _ _ _ => ?_)
      exact nm_r (nI_1 i) (ih (i + 1) m' b4 b6 b7 b8 (by omega) (by omega) hI')
    · have e' : i = 8 := by omega
      subst e'
      exact br_t (nI_le (a := 8) (by omega) (by decide)) ⟨9, md_gr53 hV h1 hc H0 H1 9 0 m a4 a6 a7 a8 (by omega) (by omega) hI⟩
theorem md_grow {post : Int32 → St1 → Prop} {q : Int32} {a1 a2 a3 a4 a5 a6 a7 a8 a9 a10 a11 : Nat → Int32} {V cls : Nat → Nat} (hV : ∀ e, e < 8 → V e < 32) (h1 : ∀ e, e < 8 → a1 e = nI (V e)) (hc : md_cl1 cls a5)
    (H0 : ∀ m b4 b6 b7 b8, post 0 (nI m, a1, a2, a3, b4, a5, b6, b7, b8, a9, a10, a11))
    (H1 : md_cnt (fun z => cls z = 1) 8 + 1 ≤ md_r V → ∀ cls' m b4 b5 b6 b7 b8, md_cl1 cls' b5 → md_cnt (fun z => cls' z = 1) 8 = md_cnt (fun z => cls z = 1) 8 + 1 → post 1 (nI m, a1, a2, a3, b4, b5, b6, b7, b8, a9, a10, a11)) : wpX_growRainbow post (q, a1, a2, a3, a4, a5, a6, a7, a8, a9, a10, a11) := by
  unfold wpX_growRainbow
  refine md_members (fun r hr => ?_)
  refine md_start (md_S1 V cls) (md_E1 cls) (fun b6 b7 _ hI => ?_)
  exact ⟨9, md_gr12 hV h1 hc hr H0 H1 9 0 0 a4 b6 b7 a8 (by omega) (by omega) hI⟩
/-! ===== rainbow ===== -/
theorem md_rb10 {post : Int32 → St1 → Prop} {a1 a2 a3 a9 a10 a11 : Nat → Int32} {V : Nat → Nat} (hV : ∀ e, e < 8 → V e < 32) (h1 : ∀ e, e < 8 → a1 e = nI (V e))
    (H : ∀ n, n ≤ md_r V → ∀ q b4 b5 b6 b7 b8, post (nI n) (q, a1, a2, a3, b4, b5, b6, b7, b8, a9, a10, a11)) :
    ∀ f i n x cls q a4 a5 a6 a7 a8, i ≤ 9 → 9 - i < f → md_cl1 cls a5 → md_cnt (fun z => cls z = 1) 8 = n → n ≤ md_r V → wX_rainbow_10 post f (nI n) x (nI i) q a1 a2 a3 a4 a5 a6 a7 a8 a9 a10 a11 := by
  intro f
  induction f with
  | zero => intro i n x cls q a4 a5 a6 a7 a8 _ h; omega
  | succ f ih =>
    intro i n x cls q a4 a5 a6 a7 a8 hi hf hc hN hn
    refine pk_le 9 i (fun _ => H n hn q a4 a5 a6 a7 a8) (fun z => ?_)
    refine br_c (fun _ => H n hn q a4 a5 a6 a7 a8) (fun _ => ?_)
    refine md_grow hV h1 hc (fun m b4 b6 b7 b8 => ?_) (fun hr cls' m b4 b5 b6 b7 b8 hc' hN' => ?_)
    · exact br_t rfl (nm_r (e' := nI n) (Int32.add_zero _) (nm_r (nI_1 i) (ih (i + 1) n 0 cls _ b4 a5 b6 b7 b8 (by omega) (by omega) hc hN hn)))
    · exact br_f (by decide) (nm_r (nI_1 n) (nm_r (nI_1 i) (ih (i + 1) (n + 1) 1 cls' _ b4 b5 b6 b7 b8 (by omega) (by omega) hc' (by omega) (by omega))))
theorem md_rainbow {post : Int32 → St1 → Prop} {q : Int32} {a1 a2 a3 a4 a5 a6 a7 a8 a9 a10 a11 : Nat → Int32} {V : Nat → Nat} (hV : ∀ e, e < 8 → V e < 32) (h1 : ∀ e, e < 8 → a1 e = nI (V e))
    (H : ∀ n, n ≤ md_r V → ∀ q b4 b5 b6 b7 b8, post (nI n) (q, a1, a2, a3, b4, b5, b6, b7, b8, a9, a10, a11)) : wpX_rainbow post (q, a1, a2, a3, a4, a5, a6, a7, a8, a9, a10, a11) := by
  unfold wpX_rainbow
  refine md_clear (fun b5 hb => ?_)
  exact ⟨10, md_rb10 hV h1 H 10 0 0 1 (fun _ => 0) q a4 b5 a6 a7 a8 (by omega) (by omega) (fun z hz => ⟨hb z hz, Nat.zero_le 1⟩) (md_cnt_none (fun _ _ => by decide)) (by omega)⟩
end
section
/-! ===== the law's checks on one state ===== -/
theorem md_r255 (V : Nat → Nat) : md_rho V (md_M 255) = md_r V := md_rho_congr (fun _ he => ⟨fun _ => trivial, fun _ => (md_M_255 (by omega)).mpr he⟩)
theorem md_holds {post : Int32 → St1 → Prop} {q : Int32} {a1 a2 a3 a4 a5 a6 a7 a8 a9 a10 a11 : Nat → Int32} {V : Nat → Nat} {p : Int32} (hV : ∀ e, e < 8 → V e < 32) (h1 : ∀ e, e < 8 → a1 e = nI (V e))
    (H : ∀ q b4 b5 b6 b7 b8 b9 b10 b11, post 1 (q, a1, a2, a3, b4, b5, b6, b7, b8, b9, b10, b11)) : wpL_holds post (q, a1, a2, a3, a4, a5, a6, a7, a8, a9, a10, a11) p := by
  have r5 : md_r V ≤ 5 := md_rho_le5 V _
  unfold wpL_holds
  refine md_rank hV h1 (fun b4 => ?_)
  rw [md_r255]
  refine md_closure hV h1 (fun c c4 hc => ?_)
  refine md_poly hV h1 (fun d4 d9 d10 d11 => ?_)
  refine md_bases hV h1 (fun e4 e9 e10 e11 => br_t rfl ?_)
  refine md_poly hV h1 (fun f4 f9 f10 f11 => br_t (by rw [md_T2]; rfl) ?_)
  refine md_rank hV h1 (fun g4 => ?_)
  refine md_rank hV h1 (fun h4 => br_t (by rw [md_clo_rho hc]) ?_)
  refine md_closure hV h1 (fun d k4 hd => br_t (md_clo_clo hc hd) (br_t (md_clo_sub hc) ?_))
  refine md_union hV h1 (fun n n1 n2 n3 l q4 q5 q6 q7 q8 => ?_)
  refine md_rainbow hV h1 (fun k k1 l' s4 s5 s6 s7 s8 => ?_)
  refine br_f (nI_nlt k1 (by omega)) (br_f (fun w => ?_) (br_f (nI_nlt n1 (by omega)) (br_f (nI_nlt (b := n) (a := 8) n3 (by omega)) ?_)))
  · have e : (2 : Int32) * nI (md_r V) = nI (2 * md_r V) := pk_mul 2 (md_r V)
    rw [e] at w
    exact nI_nlt n2 (by omega) w
  · exact H _ _ _ _ _ _ _ _ _
end
section
/-! ===== init, vector, colour, weight ===== -/
theorem md_in93 {post : St1 → Prop} {mc ms kc ks : Nat} {q : Int32} {a1 a3 a4 a5 a6 a7 a8 a9 a10 a11 : Nat → Int32} (H : ∀ b2, post (q, a1, b2, a3, a4, a5, a6, a7, a8, a9, a10, a11)) :
    ∀ n i a2, i ≤ 8 → 8 - i < n → wX_init_93 post mc ms kc ks q n (nI i) a1 a2 a3 a4 a5 a6 a7 a8 a9 a10 a11 := by
  intro n
  induction n with
  | zero => intro i a2 _ h; omega
  | succ n ih =>
    intro i a2 hi hn
    rcases Nat.lt_or_ge i 8 with z | z
    · exact br_f (nI_ge (b := 8) z (by decide)) ⟨vp_in_nI z (by decide), nm_e (nm_r (nI_1 i) (ih (i + 1) _ (by omega) (by omega)))⟩
    · have e : i = 8 := by omega
      subst e
      exact br_t (nI_le (a := 8) (by omega) (by decide)) (H a2)
theorem md_init {post : St1 → Prop} (H : ∀ b2, post (0, (fun _ => 0), b2, (fun _ => 0), (fun _ => 0), (fun _ => 0), (fun _ => 0), (fun _ => 0), (fun _ => 0), (fun _ => 0), (fun _ => 0), (fun _ => 0))) : wpX_init post 11 97 0 := by
  unfold wpX_init
  exact ⟨by omega, by omega, by omega, by omega, by omega, by omega, by omega, by omega, by omega, by omega, by omega, by omega, by omega, by omega, by omega, by omega, by omega, by omega, by omega, by omega, by omega, by omega, 9, md_in93 H 9 0 _ (by omega) (by omega)⟩
theorem md_vector {post : St1 → Prop} {q : Int32} {a1 a2 a3 a4 a5 a6 a7 a8 a9 a10 a11 : Nat → Int32} {p0 p1 : Int32} (H : ∀ j v, j < 8 → v < 32 → post (q, upd a1 j (nI v), a2, a3, a4, a5, a6, a7, a8, a9, a10, a11)) : wpX_vector post (q, a1, a2, a3, a4, a5, a6, a7, a8, a9, a10, a11) p0 p1 := by
  unfold wpX_vector
  obtain ⟨j, hj, e1⟩ := pk_andE p0 (m := 7) 3 (by decide)
  obtain ⟨v, hv, e2⟩ := pk_andE p1 (m := 31) 5 (by decide)
  have hj' : j < 8 := hj
  rw [e1, e2, nI_clamp (show j < 2 ^ 31 by omega)]
  exact ⟨vp_in_nI hj' (by decide), nm_e (H j v hj' hv)⟩
theorem md_colour {post : St1 → Prop} {q : Int32} {a1 a2 a3 a4 a5 a6 a7 a8 a9 a10 a11 : Nat → Int32} {p0 p1 : Int32} (H : ∀ b2, post (q, a1, b2, a3, a4, a5, a6, a7, a8, a9, a10, a11)) : wpX_colour post (q, a1, a2, a3, a4, a5, a6, a7, a8, a9, a10, a11) p0 p1 := by
  unfold wpX_colour
  obtain ⟨j, hj, e1⟩ := pk_andE p0 (m := 7) 3 (by decide)
  have hj' : j < 8 := hj
  rw [e1]
  exact ⟨vp_in_nI hj' (by decide), nm_e (H _)⟩
theorem md_weight {post : St1 → Prop} {q : Int32} {a1 a2 a3 a4 a5 a6 a7 a8 a9 a10 a11 : Nat → Int32} {j : Nat} {p1 : Int32} (hj : j < 2) (h1 : -100 ≤ p1) (h2 : p1 ≤ 100) (H : post (q, a1, a2, upd a3 j p1, a4, a5, a6, a7, a8, a9, a10, a11)) : wpX_weight post (q, a1, a2, a3, a4, a5, a6, a7, a8, a9, a10, a11) (nI j) p1 := by
  unfold wpX_weight
  have e : nI j &&& 7 = nI j := by
    rcases (by omega : j = 0 ∨ j = 1) with w | w <;> (rw [w]; decide)
  rw [e, nI_clamp (show j < 2 ^ 31 by omega)]
  exact br_t h1 (br_t h2 ⟨vp_in_nI (by omega) (by decide), nm_e H⟩)
/-! ===== the law's turns ===== -/
theorem md_212 {post : Int32 → Prop} {L : Nat} {xs : Nat → Int32} {J : Int32 → Int32 → Int32 → Int32 → (Nat → Int32) → (Nat → Int32) → (Nat → Int32) → (Nat → Int32) → (Nat → Int32) → (Nat → Int32) → (Nat → Int32) → (Nat → Int32) → (Nat → Int32) → (Nat → Int32) → (Nat → Int32) → Prop}
    {x2 x3 x7 : Int32} {i kc ks : Nat} {q : Int32} {a1 a2 a3 a4 a5 a6 a7 a8 a9 a10 a11 : Nat → Int32} {V : Nat → Nat} (hV : ∀ e, e < 8 → V e < 32) (h1 : ∀ e, e < 8 → a1 e = nI (V e))
    (HJ : ∀ q b4 b5 b6 b7 b8 b9 b10 b11, J x2 x3 (nI (i + 3)) q a1 a2 a3 b4 b5 b6 b7 b8 b9 b10 b11) : wL_law_212 post L xs J x2 x3 (nI i) x7 kc ks q a1 a2 a3 a4 a5 a6 a7 a8 a9 a10 a11 := by
  unfold wL_law_212
  refine md_holds hV h1 (fun q b4 b5 b6 b7 b8 b9 b10 b11 => ?_)
  exact br_f (by decide) (nm_r (nI_add i 3) (HJ q b4 b5 b6 b7 b8 b9 b10 b11))
theorem md_wtU {w : Nat → Int32} {j : Nat} {x : Int32} (h : md_wt w) (hj : j < 2) (hx : -100 ≤ x.toInt ∧ x.toInt ≤ 100) : md_wt (upd w j x) := by
  obtain ⟨h1, h2, h3⟩ := h
  refine ⟨fun e e1 e2 => ?_, ?_, ?_⟩
  · rw [pk_un (by omega)]
    exact h1 e e1 e2
  · rcases Classical.em (0 = j) with z | z
    · rw [z, pk_us]; exact hx
    · rw [pk_un z]; exact h2
  · rcases Classical.em (1 = j) with z | z
    · rw [z, pk_us]; exact hx
    · rw [pk_un z]; exact h3
theorem md_114 {L : Nat} {xs : Nat → Int32} {J : Int32 → Int32 → Int32 → Int32 → (Nat → Int32) → (Nat → Int32) → (Nat → Int32) → (Nat → Int32) → (Nat → Int32) → (Nat → Int32) → (Nat → Int32) → (Nat → Int32) → (Nat → Int32) → (Nat → Int32) → (Nat → Int32) → Prop}
    {post : Int32 → Prop} {x2 x3 x7 x9 z0 : Int32} {i j kc ks : Nat} {q : Int32} {a1 a2 a3 a4 a5 a6 a7 a8 a9 a10 a11 : Nat → Int32} {V : Nat → Nat} (hV : ∀ e, e < 8 → V e < 32) (h1 : ∀ e, e < 8 → a1 e = nI (V e)) (hw : md_wt a3) (hj : j < 2) (hx : -100 ≤ x9.toInt ∧ x9.toInt ≤ 100)
    (hz : (j = 0 ∧ z0 = a3 0) ∨ (j = 1 ∧ z0 = a3 1))
    (HJ : ∀ y2 y3 q b4 b5 b6 b7 b8 b9 b10 b11, ((j = 0 ∧ y2 = x9 ∧ y3 = x3) ∨ (j = 1 ∧ y2 = x2 ∧ y3 = x9)) → J y2 y3 (nI (i + 3)) q a1 a2 (upd a3 j x9) b4 b5 b6 b7 b8 b9 b10 b11) :
    wL_law_114 post L xs J x2 x3 (nI i) x7 (nI j) x9 z0 kc ks q a1 a2 a3 a4 a5 a6 a7 a8 a9 a10 a11 := by
  have hw' := md_wtU hw hj hx
  have lip := md_lip (V := V) hV hw hw' (x := z0) (x' := x9) (by
    rcases hz with ⟨w1, w2⟩ | ⟨w1, w2⟩
    · subst w1
      exact Or.inl ⟨w2.symm, pk_us, pk_un (by decide)⟩
    · subst w1
      exact Or.inr ⟨w2.symm, pk_us, pk_un (by decide)⟩)
  have F : ∀ b4, wL_law_187 post L xs J x2 x3 (nI i) x7 (nI j) x9 kc ks q a1 a2 (upd a3 j x9) b4 a5 a6 a7 a8 a9 a10 a11 := by
    intro b4
    unfold wL_law_187 wL_law_198 wL_law_211
    refine pk_eq j 0 (fun w => ?_) (fun w => ?_)
    · refine pk_eq j 1 (fun w' => absurd w' (by omega)) (fun w' => ?_)
      exact md_212 hV h1 (fun q b4 b5 b6 b7 b8 b9 b10 b11 => HJ _ _ _ _ _ _ _ _ _ _ _ (Or.inl ⟨w, rfl, rfl⟩))
    · refine pk_eq j 1 (fun w' => ?_) (fun w' => absurd w' (by omega))
      exact md_212 hV h1 (fun q b4 b5 b6 b7 b8 b9 b10 b11 => HJ _ _ _ _ _ _ _ _ _ _ _ (Or.inr ⟨w', rfl, rfl⟩))
  unfold wL_law_114
  refine md_heaviest hV h1 hw.1 (fun b4 => ?_)
  refine md_weight hj (Int32.le_iff_toInt_le.mpr hx.1) (Int32.le_iff_toInt_le.mpr hx.2) ?_
  refine md_heaviest hV h1 hw'.1 (fun c4 => ?_)
  exact nm_e (br_c (fun z => br_f (lip.1 z).1 (br_t (lip.1 z).2 (F c4))) (fun z => br_f (lip.2 z).1 (br_t (lip.2 z).2 (F c4))))
theorem md_w9 (x : Int32) : -100 ≤ (((x &&& 255) - (x &&& 255) / 201 * 201) - 100).toInt ∧ (((x &&& 255) - (x &&& 255) / 201 * 201) - 100).toInt ≤ 100 := by
  obtain ⟨a, ha, e⟩ := pk_andE x (m := 255) 8 (by decide)
  have ha' : a < 256 := ha
  have e1 : nI a - nI a / 201 * 201 = nI (a % 201) := pk_rem (d := 201) (by omega) (by decide) (by decide)
  have e2 : (nI (a % 201) - 100).toInt = ((a % 201 : Nat) : Int) - (100 : Nat) := pk_sub_toInt (b := 100) (by omega) (by decide)
  rw [e, e1, e2]
  omega
theorem md_15 {L : Nat} {xs : Nat → Int32} (hL : L ≤ 260) {kc ks : Nat} : ∀ (n i : Nat) (V : Nat → Nat) (q : Int32) (a1 a2 a3 a4 a5 a6 a7 a8 a9 a10 a11 : Nat → Int32), i ≤ L → L - i < n → (∀ e, e < 8 → V e < 32) → (∀ e, e < 8 → a1 e = nI (V e)) → md_wt a3 →
    wL_law_15 (fun r => r = 1) L xs kc ks n (a3 0) (a3 1) (nI i) q a1 a2 a3 a4 a5 a6 a7 a8 a9 a10 a11 := by
  intro n
  induction n with
  | zero => intro i V q a1 a2 a3 a4 a5 a6 a7 a8 a9 a10 a11 _ h; omega
  | succ n ih =>
    intro i V q a1 a2 a3 a4 a5 a6 a7 a8 a9 a10 a11 hi hn hV h1 hw
    refine pk_lt L (i + 3) (fun _ => rfl) (fun g => ?_) rfl (nI_add i 3)
    refine ⟨pk_in i L (by omega), nm_e ⟨pk_in (i + 1) L (by omega) (nI_1 i), nm_e ⟨pk_in (i + 2) L (by omega) (nI_add i 2), nm_e ?_⟩⟩⟩
    refine br_c (fun _ => br_c (fun _ => ?_) (fun _ => ?_)) (fun _ => ?_)
    · refine md_colour (fun b2 => ?_)
      exact md_212 hV h1 (fun q b4 b5 b6 b7 b8 b9 b10 b11 => ih (i + 3) V q a1 b2 a3 b4 b5 b6 b7 b8 b9 b10 b11 (by omega) (by omega) hV h1 hw)
    · obtain ⟨j, hj, e1⟩ := pk_andE (xs (nI i + 1).toNatClampNeg) (m := 1) 1 (by decide)
      have hj' : j < 2 := hj
      refine nm_r e1 ⟨by decide, nm_e ?_⟩
      have hx := md_w9 (xs (nI i + 2).toNatClampNeg)
      refine pk_eq j 0 (fun w => ?_) (fun w => ?_)
      · refine md_114 hV h1 hw hj' hx (Or.inl ⟨w, rfl⟩) (fun y2 y3 q b4 b5 b6 b7 b8 b9 b10 b11 hy => ?_)
        rcases hy with ⟨_, y1, y2'⟩ | ⟨y0, _, _⟩
        · subst w
          have t := ih (i + 3) V q a1 a2 (upd a3 0 (((xs (nI i + 2).toNatClampNeg &&& 255) - (xs (nI i + 2).toNatClampNeg &&& 255) / 201 * 201) - 100)) b4 b5 b6 b7 b8 b9 b10 b11 (by omega) (by omega) hV h1 (md_wtU hw hj' hx)
          rw [pk_us, pk_un (show 1 ≠ 0 by decide)] at t
          rw [y1, y2']
          exact t
        · omega
      · refine md_114 hV h1 hw hj' hx (Or.inr ⟨by omega, rfl⟩) (fun y2 y3 q b4 b5 b6 b7 b8 b9 b10 b11 hy => ?_)
        rcases hy with ⟨y0, _, _⟩ | ⟨y0, y1, y2'⟩
        · omega
        · subst y0
          have t := ih (i + 3) V q a1 a2 (upd a3 1 (((xs (nI i + 2).toNatClampNeg &&& 255) - (xs (nI i + 2).toNatClampNeg &&& 255) / 201 * 201) - 100)) b4 b5 b6 b7 b8 b9 b10 b11 (by omega) (by omega) hV h1 (md_wtU hw hj' hx)
          rw [pk_us, pk_un (show 0 ≠ 1 by decide)] at t
          rw [y1, y2']
          exact t
    · refine md_vector (fun j v hj hv => ?_)
      have hV' : ∀ e, e < 8 → md_up V j v e < 32 := by
        intro e he
        rcases Classical.em (e = j) with w | w
        · rw [w, md_up_s]; exact hv
        · rw [md_up_n _ _ w]; exact hV e he
      have h1' : ∀ e, e < 8 → upd a1 j (nI v) e = nI (md_up V j v e) := by
        intro e he
        rcases Classical.em (e = j) with w | w
        · rw [w, md_up_s, pk_us]
        · rw [md_up_n _ _ w, pk_un w]; exact h1 e he
      exact md_212 hV' h1' (fun q b4 b5 b6 b7 b8 b9 b10 b11 => ih (i + 3) (md_up V j v) q _ a2 a3 b4 b5 b6 b7 b8 b9 b10 b11 (by omega) (by omega) hV' h1' hw)
theorem i_vc (xs : Nat → Int32) (L : Nat) (hL : L ≤ 260) : wpL_law (fun r => r = 1) L xs := by
  refine ⟨11, 97, by omega, by omega, md_init (fun b2 => ?_)⟩
  exact ⟨L + 1, md_15 hL (L + 1) 0 (fun _ => 0) 0 _ b2 (fun _ => 0) _ _ _ _ _ _ _ _ (by omega) (by omega) (fun _ _ => by decide) (fun _ _ => rfl) ⟨fun _ _ _ => rfl, by decide, by decide⟩⟩
end
