section
/-! ===== pure rows: functions, counts, ints ===== -/
def dn_set {α : Type} (f : Nat → α) (k : Nat) (x : α) : Nat → α := fun j => if j = k then x else f j
theorem dn_ss {α : Type} {f : Nat → α} {k : Nat} {x : α} : dn_set f k x k = x := if_pos rfl
theorem dn_sn {α : Type} {f : Nat → α} {k j : Nat} {x : α} (h : j ≠ k) : dn_set f k x j = f j := if_neg h
theorem dn_bf {x : Bool} (h : ¬ x = true) : x = false := by
  cases x with
  | false => rfl
  | true => exact absurd rfl h
/-- the nodes of a network over three vertices -/
def dn_nd (z : Nat) : Prop := z < 3 ∨ 10 ≤ z
/-- how many below n are marked -/
def dn_cnt (v : Nat → Bool) : Nat → Nat
  | 0 => 0
  | n + 1 => dn_cnt v n + (if v n = true then 1 else 0)
theorem dn_cnt_le (v : Nat → Bool) : ∀ n, dn_cnt v n ≤ n
  | 0 => Nat.le_refl 0
  | n + 1 => by
    have h := dn_cnt_le v n
    show dn_cnt v n + (if v n = true then 1 else 0) ≤ n + 1
    split <;> omega
theorem dn_cnt_lt {v : Nat → Bool} {y : Nat} (hv : v y = false) : ∀ n, y < n → dn_cnt v n < n
  | 0, h => absurd h (by omega)
  | n + 1, h => by
    show dn_cnt v n + (if v n = true then 1 else 0) < n + 1
    by_cases e : y = n
    · have h2 := dn_cnt_le v n
      rw [if_neg (by rw [← e, hv]; decide)]
      omega
    · have h2 := dn_cnt_lt hv n (by omega)
      split <;> omega
theorem dn_cnt_out {v : Nat → Bool} {y : Nat} : ∀ n, n ≤ y → dn_cnt (dn_set v y true) n = dn_cnt v n
  | 0, _ => rfl
  | n + 1, h => by
    show dn_cnt (dn_set v y true) n + (if dn_set v y true n = true then 1 else 0) = dn_cnt v n + (if v n = true then 1 else 0)
    rw [dn_cnt_out n (by omega), dn_sn (show n ≠ y by omega)]
theorem dn_cnt_set {v : Nat → Bool} {y : Nat} (hv : v y = false) : ∀ n, y < n → dn_cnt (dn_set v y true) n = dn_cnt v n + 1
  | 0, h => absurd h (by omega)
  | n + 1, h => by
    show dn_cnt (dn_set v y true) n + (if dn_set v y true n = true then 1 else 0) = dn_cnt v n + (if v n = true then 1 else 0) + 1
    by_cases e : y = n
    · rw [dn_cnt_out n (by omega), ← e, dn_ss, hv]
      rfl
    · rw [dn_cnt_set hv n (by omega), dn_sn (show n ≠ y by omega)]
      omega
/-- a search: marks v, places ρ in the queue q, where each was come from (par), e are in the queue -/
def dn_B (E : Nat → Nat → Prop) (root : Nat) (v : Nat → Bool) (ρ par : Nat → Nat) (q : Nat → Int32) (e : Nat) : Prop :=
  dn_cnt v 12 = e ∧ v root = true ∧ ρ root = 0 ∧
  (∀ z, z < 12 → v z = true → dn_nd z ∧ ρ z < e ∧ q (ρ z) = nI z ∧ (z = root ∨ (par z < 12 ∧ v (par z) = true ∧ ρ (par z) < ρ z ∧ E (par z) z))) ∧
  (∀ j, j < e → ∃ z, z < 12 ∧ v z = true ∧ ρ z = j)
theorem dn_Badd {E : Nat → Nat → Prop} {root : Nat} {v : Nat → Bool} {ρ par : Nat → Nat} {q : Nat → Int32} {e x y : Nat} (h : dn_B E root v ρ par q e) (hx : x < 12) (vx : v x = true) (hy : y < 12) (ny : dn_nd y) (vy : v y = false) (hE : E x y) :
    e < 12 ∧ dn_B E root (dn_set v y true) (dn_set ρ y e) (dn_set par y x) (upd q e (nI y)) (e + 1) := by
  obtain ⟨h1, h2, h3, h4, h5⟩ := h
  have he : e < 12 := by rw [← h1]; exact dn_cnt_lt vy 12 hy
  have ne : ∀ z, v z = true → z ≠ y := fun z hz g => by rw [g, vy] at hz; exact absurd hz (by decide)
  refine ⟨he, ?_, ?_, ?_, ?_, ?_⟩
  · rw [dn_cnt_set vy 12 hy, h1]
  · rw [dn_sn (ne root h2)]; exact h2
  · rw [dn_sn (ne root h2)]; exact h3
  · intro z hz vz
    by_cases g : z = y
    · subst g
      refine ⟨ny, ?_, ?_, Or.inr ?_⟩
      · rw [dn_ss]; omega
      · rw [dn_ss, pk_us]
      · rw [dn_ss, dn_ss, dn_sn (ne x vx), dn_sn (ne x vx)]
        exact ⟨hx, vx, (h4 x hx vx).2.1, hE⟩
    · rw [dn_sn g] at vz
      obtain ⟨k1, k2, k3, k4⟩ := h4 z hz vz
      refine ⟨k1, ?_, ?_, ?_⟩
      · rw [dn_sn g]; omega
      · rw [dn_sn g, pk_un (by omega)]; exact k3
      · rcases k4 with k4 | ⟨k5, k6, k7, k8⟩
        · exact Or.inl k4
        · refine Or.inr ?_
          rw [dn_sn g, dn_sn g, dn_sn (ne _ k6), dn_sn (ne _ k6)]
          exact ⟨k5, k6, k7, k8⟩
  · intro j hj
    by_cases g : j = e
    · exact ⟨y, hy, dn_ss, by rw [dn_ss, g]⟩
    · obtain ⟨z, z1, z2, z3⟩ := h5 j (by omega)
      exact ⟨z, z1, by rw [dn_sn (ne z z2)]; exact z2, by rw [dn_sn (ne z z2)]; exact z3⟩
theorem dn_Ble {E : Nat → Nat → Prop} {root : Nat} {v : Nat → Bool} {ρ par : Nat → Nat} {q : Nat → Int32} {e : Nat} (h : dn_B E root v ρ par q e) : e ≤ 12 := by
  rw [← h.1]; exact dn_cnt_le v 12
theorem dn_Binj {E : Nat → Nat → Prop} {root : Nat} {v : Nat → Bool} {ρ par : Nat → Nat} {q : Nat → Int32} {e x z : Nat} (h : dn_B E root v ρ par q e) (hx : x < 12) (vx : v x = true) (hz : z < 12) (vz : v z = true) (g : ρ x = ρ z) : x = z := by
  have a := (h.2.2.2.1 x hx vx).2.2.1
  have b := (h.2.2.2.1 z hz vz).2.2.1
  rw [g, b] at a
  exact ((nI_eq (by omega) (by omega)).mp a).symm
/-- the edges out of the first i of the queue lead to marked nodes -/
def dn_C (E : Nat → Nat → Prop) (v : Nat → Bool) (ρ : Nat → Nat) (i : Nat) : Prop := ∀ z, z < 12 → v z = true → ρ z < i → ∀ y, y < 12 → dn_nd y → E z y → v y = true
/-- the edges from x to nodes below k lead to marked nodes -/
def dn_D (E : Nat → Nat → Prop) (v : Nat → Bool) (x k : Nat) : Prop := ∀ y, y < k → dn_nd y → E x y → v y = true
def dn_Cl (E : Nat → Nat → Prop) (v : Nat → Bool) : Prop := ∀ z, z < 12 → v z = true → ∀ y, y < 12 → dn_nd y → E z y → v y = true
theorem dn_Dadd {E : Nat → Nat → Prop} {v : Nat → Bool} {x k : Nat} (h : dn_D E v x k) (hk : dn_nd k → E x k → v k = true) : dn_D E v x (k + 1) := by
  intro y hy ny hE
  by_cases g : y = k
  · rw [g] at ny hE ⊢
    exact hk ny hE
  · exact h y (by omega) ny hE
theorem dn_mono {v : Nat → Bool} {y z : Nat} (h : v z = true) : dn_set v y true z = true := by
  by_cases g : z = y
  · rw [g]; exact dn_ss
  · rw [dn_sn g]; exact h
theorem dn_Dset {E : Nat → Nat → Prop} {v : Nat → Bool} {x k : Nat} (h : dn_D E v x k) : dn_D E (dn_set v k true) x (k + 1) :=
  dn_Dadd (fun y hy ny hE => dn_mono (h y hy ny hE)) (fun _ _ => dn_ss)
theorem dn_Cset {E : Nat → Nat → Prop} {v : Nat → Bool} {ρ : Nat → Nat} {i y e : Nat} (h : dn_C E v ρ i) (he : i ≤ e) : dn_C E (dn_set v y true) (dn_set ρ y e) i := by
  intro z hz vz hr w hw nw hE
  by_cases g : z = y
  · rw [g, dn_ss] at hr
    omega
  · rw [dn_sn g] at vz hr
    exact dn_mono (h z hz vz hr w hw nw hE)
theorem dn_Cnext {E : Nat → Nat → Prop} {root : Nat} {v : Nat → Bool} {ρ par : Nat → Nat} {q : Nat → Int32} {e x i : Nat} (h : dn_B E root v ρ par q e) (hx : x < 12) (vx : v x = true) (rx : ρ x = i) (hC : dn_C E v ρ i) (hD : dn_D E v x 12) : dn_C E v ρ (i + 1) := by
  intro z hz vz hr y hy ny hE
  by_cases g : ρ z = i
  · have gx : x = z := dn_Binj h hx vx hz vz (by rw [rx, g])
    rw [← gx] at hE
    exact hD y hy ny hE
  · exact hC z hz vz (by omega) y hy ny hE
theorem dn_Clast {E : Nat → Nat → Prop} {root : Nat} {v : Nat → Bool} {ρ par : Nat → Nat} {q : Nat → Int32} {e : Nat} (h : dn_B E root v ρ par q e) (hC : dn_C E v ρ e) : dn_Cl E v :=
  fun z hz vz y hy ny hE => hC z hz vz (h.2.2.2.1 z hz vz).2.1 y hy ny hE
/-- the start of a search -/
theorem dn_B0 {E : Nat → Nat → Prop} {root : Nat} (hr : root < 12) (nr : dn_nd root) (q : Nat → Int32) : dn_B E root (dn_set (fun _ => false) root true) (fun _ => 0) (fun _ => root) (upd q 0 (nI root)) 1 := by
  have h0 : ∀ n, dn_cnt (fun _ => false) n = 0 := by
    intro n
    induction n with
    | zero => rfl
    | succ n ih => show dn_cnt (fun _ => false) n + (if (false : Bool) = true then 1 else 0) = 0; rw [ih]; rfl
  refine ⟨?_, dn_ss, rfl, ?_, ?_⟩
  · rw [dn_cnt_set rfl 12 hr, h0]
  · intro z hz vz
    by_cases g : z = root
    · subst g
      exact ⟨nr, Nat.zero_lt_one, pk_us, Or.inl rfl⟩
    · rw [dn_sn g] at vz
      exact absurd vz (by decide)
  · intro j hj
    exact ⟨root, hr, dn_ss, by show 0 = j; omega⟩
/-! ===== ints ===== -/
theorem dn_ix (x y : Nat) : nI x * 12 + nI y = nI (x * 12 + y) := by
  rw [show (12 : Int32) = nI 12 from rfl, pk_mul, nI_add]
theorem dn_ixc {x y : Nat} (hx : x < 12) (hy : y < 12) : (nI x * 12 + nI y).toNatClampNeg = x * 12 + y := by
  rw [dn_ix, nI_clamp (by omega)]
theorem dn_ix10 (x y : Nat) : nI x * 10 + nI y = nI (x * 10 + y) := by
  rw [show (10 : Int32) = nI 10 from rfl, pk_mul, nI_add]
def dn_I (z : Int) : Int32 := Int32.ofInt z
theorem dn_It {z : Int} (h1 : -1000000000 < z) (h2 : z < 1000000000) : (dn_I z).toInt = z := Int32.toInt_ofInt_of_le (by omega) (by omega)
theorem dn_Ile {y z : Int} (h1 : -1000000000 < z) (h2 : z < 1000000000) (h3 : -1000000000 < y) (h4 : y < 1000000000) : dn_I y ≤ dn_I z ↔ y ≤ z := by
  rw [Int32.le_iff_toInt_le, dn_It h1 h2, dn_It h3 h4]
theorem dn_Ieq {y z : Int} (h1 : -1000000000 < z) (h2 : z < 1000000000) (h3 : -1000000000 < y) (h4 : y < 1000000000) : dn_I y = dn_I z ↔ y = z := by
  rw [← Int32.toInt_inj, dn_It h1 h2, dn_It h3 h4]
theorem dn_Isub {x y : Nat} (hx : x < 1000000000) (hy : y < 1000000000) : nI x - nI y = dn_I ((x : Int) - (y : Int)) := by
  rw [← Int32.toInt_inj, pk_sub_toInt (by omega) (by omega), dn_It (by omega) (by omega)]
theorem dn_acc (s t w : Nat) : (nI s - nI t) + nI w = nI (s + w) - nI t := by
  rw [← nI_add]
  grind
theorem dn_sub_le {s t : Nat} (hs : s < 1000000000) (ht : t < 1000000000) : nI s - nI t ≤ 0 ↔ s ≤ t := by
  rw [Int32.le_iff_toInt_le, pk_sub_toInt (by omega) (by omega), show (0 : Int32).toInt = 0 from by decide]
  omega
theorem dn_sub_neg {s t : Nat} (h : s ≤ t) : -(nI s - nI t) = nI (t - s) := by
  rw [← pk_sub h]
  grind
end
section
/-! ===== isNode, findWay ===== -/
/-- an edge with room, forward -/
def dn_E (a4 : Nat → Int32) (x y : Nat) : Prop := ¬ a4 (x * 12 + y) ≤ 0
/-- a forward search and what the arrays hold of it -/
def dn_F (a4 : Nat → Int32) (v : Nat → Bool) (ρ par : Nat → Nat) (a5 a6 : Nat → Int32) (e : Nat) : Prop :=
  dn_B (dn_E a4) 10 v ρ par a6 e ∧ par 10 = 10 ∧ ∀ z, z < 12 → (v z = true → a5 z = nI (par z)) ∧ (v z = false → a5 z = -1)
theorem dn_isN {post : Int32 → Prop} {cs bt bb bs : Int32} {a1 a2 a3 a4 a5 a6 a7 : Nat → Int32} (k : Nat) (hk : k < 12) (h1 : dn_nd k → post 1) (h0 : ¬ dn_nd k → post 0) : wpX_isNode post (3, cs, bt, bb, bs, a1, a2, a3, a4, a5, a6, a7) (nI k) :=
  pk_lt k 3 (fun z => h1 (Or.inl z)) (fun z => pk_lt k 10 (fun z2 => h0 (fun g => by unfold dn_nd at g; omega)) (fun z2 => h1 (Or.inr z2)))
section
variable {post : Int32 → St2 → Prop} {cs bt bb bs : Int32} {a1 a2 a3 a4 a7 : Nat → Int32}
theorem dn_Fadd {v : Nat → Bool} {ρ par : Nat → Nat} {a5 a6 : Nat → Int32} {e x y : Nat} (h : dn_F a4 v ρ par a5 a6 e) (hx : x < 12) (vx : v x = true) (hy : y < 12) (ny : dn_nd y) (vy : v y = false) (hE : dn_E a4 x y) :
    e < 12 ∧ dn_F a4 (dn_set v y true) (dn_set ρ y e) (dn_set par y x) (upd a5 y (nI x)) (upd a6 e (nI y)) (e + 1) := by
  obtain ⟨hB, hp, h5⟩ := h
  obtain ⟨he, hB'⟩ := dn_Badd hB hx vx hy ny vy hE
  refine ⟨he, hB', ?_, ?_⟩
  · have : (10 : Nat) ≠ y := fun g => by have t := hB.2.1; rw [g, vy] at t; exact absurd t (by decide)
    rw [dn_sn this]; exact hp
  · intro z hz
    by_cases g : z = y
    · subst g
      rw [dn_ss, dn_ss, pk_us]
      exact ⟨fun _ => rfl, fun t => absurd t (by decide)⟩
    · rw [dn_sn g, dn_sn g, pk_un g]
      exact h5 z hz
theorem dn_f63 {J : Int32 → Int32 → (Nat → Int32) → (Nat → Int32) → (Nat → Int32) → (Nat → Int32) → (Nat → Int32) → (Nat → Int32) → (Nat → Int32) → Prop} {i x : Nat} (hx : x < 12)
    (H : ∀ (e : Nat) (v : Nat → Bool) (ρ par : Nat → Nat) (a5 a6 : Nat → Int32), dn_F a4 v ρ par a5 a6 e → dn_C (dn_E a4) v ρ (i + 1) → i + 1 ≤ e → J (nI e) (nI (i + 1)) a1 a2 a3 a4 a5 a6 a7) :
    ∀ (c k e : Nat) (v : Nat → Bool) (ρ par : Nat → Nat) (a5 a6 : Nat → Int32), k + c = 12 → dn_F a4 v ρ par a5 a6 e → v x = true → ρ x = i → dn_C (dn_E a4) v ρ i → dn_D (dn_E a4) v x k →
      wX_findWay_63 post J (nI i) (nI x) 3 cs bt bb bs (c + 1) (nI e) (nI k) a1 a2 a3 a4 a5 a6 a7
  | 0, k, e, v, ρ, par, a5, a6, hk, hF, vx, rx, hC, hD => by
    have e12 : k = 12 := by omega
    subst e12
    have hr := (hF.1.2.2.2.1 x hx vx).2.1
    exact br_t (by decide) (nm_r (nI_1 i) (H e v ρ par a5 a6 hF (dn_Cnext hF.1 hx vx rx hC hD) (by omega)))
  | c + 1, k, e, v, ρ, par, a5, a6, hk, hF, vx, rx, hC, hD => by
    have hk2 : k < 12 := by omega
    have hr := (hF.1.2.2.2.1 x hx vx).2.1
    have skip : (dn_nd k → dn_E a4 x k → v k = true) → wX_findWay_63 post J (nI i) (nI x) 3 cs bt bb bs (c + 1) (nI e) (nI (k + 1)) a1 a2 a3 a4 a5 a6 a7 :=
      fun g => dn_f63 hx H c (k + 1) e v ρ par a5 a6 (by omega) hF vx rx hC (dn_Dadd hD g)
    refine br_f (nI_ge (b := 12) hk2 (by decide)) (dn_isN k hk2 (fun nk => ?_) (fun nk => ?_))
    · refine br_f (by decide) ⟨pk_in k 12 hk2, ?_⟩
      rw [nI_clamp (show k < 2 ^ 31 by omega), dn_ixc hx hk2]
      by_cases vk : v k = true
      · refine br_t ?_ (nm_r (nI_1 k) (skip (fun _ _ => vk)))
        rw [(hF.2.2 k hk2).1 vk]
        by_cases g : k = 10
        · rw [g, hF.2.1]; decide
        · rcases (hF.1.2.2.2.1 k hk2 vk).2.2.2 with z | z
          · exact absurd z g
          · exact nI_pos' (by omega)
      · have vk' := dn_bf vk
        refine br_f ?_ ⟨pk_in (x * 12 + k) 144 (by omega) (dn_ix x k), br_c (fun g => nm_r (nI_1 k) (skip (fun _ hE => absurd g hE))) (fun g => ?_)⟩
        · rw [(hF.2.2 k hk2).2 vk']; decide
        · obtain ⟨he, hF'⟩ := dn_Fadd hF hx vx hk2 nk vk' g
          refine ⟨pk_in k 12 hk2, nm_e ⟨pk_in e 12 he, nm_e (nm_r (nI_1 e) (nm_r (nI_1 k) ?_))⟩⟩
          rw [nI_clamp (show e < 2 ^ 31 by omega)]
          have xk : x ≠ k := fun g => by rw [g, vk'] at vx; exact absurd vx (by decide)
          exact dn_f63 hx H c (k + 1) (e + 1) _ _ _ _ _ (by omega) hF' (dn_mono vx) (by rw [dn_sn xk]; exact rx) (dn_Cset hC (by omega)) (dn_Dset hD)
    · exact br_t rfl (nm_r (nI_1 k) (skip (fun t => absurd t nk)))
theorem dn_f42 (H : ∀ (e : Nat) (v : Nat → Bool) (ρ par : Nat → Nat) (a5 a6 : Nat → Int32), dn_F a4 v ρ par a5 a6 e → dn_Cl (dn_E a4) v → wX_findWay_135 post 3 cs bt bb bs a1 a2 a3 a4 a5 a6 a7) :
    ∀ (c i e : Nat) (v : Nat → Bool) (ρ par : Nat → Nat) (a5 a6 : Nat → Int32), i + c = 12 → i ≤ e → dn_F a4 v ρ par a5 a6 e → dn_C (dn_E a4) v ρ i →
      wX_findWay_42 post 3 cs bt bb bs (c + 1) (nI e) (nI i) a1 a2 a3 a4 a5 a6 a7
  | 0, i, e, v, ρ, par, a5, a6, hi, he, hF, hC => by
    have h12 := dn_Ble hF.1
    have ei : i = e := by omega
    subst ei
    exact pk_le i i (fun _ => H i v ρ par a5 a6 hF (dn_Clast hF.1 hC)) (fun z => absurd z (by omega))
  | c + 1, i, e, v, ρ, par, a5, a6, hi, he, hF, hC => by
    have h12 := dn_Ble hF.1
    refine pk_le e i (fun z => ?_) (fun z => pk_le 12 i (fun z2 => absurd z2 (by omega)) (fun z2 => ⟨pk_in i 12 z2, ?_⟩))
    · have ei : i = e := by omega
      subst ei
      exact H i v ρ par a5 a6 hF (dn_Clast hF.1 hC)
    · obtain ⟨x, hx, vx, rx⟩ := hF.1.2.2.2.2 i z
      have qx := (hF.1.2.2.2.1 x hx vx).2.2.1
      rw [rx] at qx
      rw [nI_clamp (show i < 2 ^ 31 by omega)]
      refine nm_r qx ⟨13, ?_⟩
      exact dn_f63 hx (fun e' v' ρ' par' a5' a6' hF' hC' he' => dn_f42 H c (i + 1) e' v' ρ' par' a5' a6' (by omega) he' hF' hC') 12 0 e v ρ par a5 a6 (by omega) hF vx rx hC (fun y hy => absurd hy (by omega))
theorem dn_f2 {a6 : Nat → Int32} (H : ∀ a5 : Nat → Int32, (∀ j, j < 12 → a5 j = -1) → ∃ fu, wX_findWay_42 post 3 cs bt bb bs fu 1 0 a1 a2 a3 a4 (upd a5 10 10) (upd a6 0 10) a7) :
    ∀ (c i : Nat) (a5 : Nat → Int32), i + c = 12 → (∀ j, j < i → a5 j = -1) → wX_findWay_2 post 3 cs bt bb bs (c + 1) (nI i) a1 a2 a3 a4 a5 a6 a7
  | 0, i, a5, hi, h => by
    have e12 : i = 12 := by omega
    subst e12
    exact br_t (by decide) (nm_e (nm_e (H a5 h)))
  | c + 1, i, a5, hi, h => by
    refine br_f (nI_ge (b := 12) (by omega) (by decide)) ⟨pk_in i 12 (by omega), nm_e (nm_r (nI_1 i) (dn_f2 H c (i + 1) _ (by omega) ?_))⟩
    rw [nI_clamp (show i < 2 ^ 31 by omega)]
    intro j hj
    by_cases g : j = i
    · rw [g, pk_us]
    · rw [pk_un g]; exact h j (by omega)
theorem dn_findWay {a5 a6 : Nat → Int32}
    (H0 : ∀ (v : Nat → Bool) (a5 a6 : Nat → Int32), v 10 = true → v 11 = false → dn_Cl (dn_E a4) v → post 0 (3, cs, bt, bb, bs, a1, a2, a3, a4, a5, a6, a7))
    (H1 : ∀ (e : Nat) (v : Nat → Bool) (ρ par : Nat → Nat) (a5 a6 : Nat → Int32), dn_F a4 v ρ par a5 a6 e → v 11 = true → post 1 (3, cs, bt, bb, bs, a1, a2, a3, a4, a5, a6, a7)) :
    wpX_findWay post (3, cs, bt, bb, bs, a1, a2, a3, a4, a5, a6, a7) := by
  refine ⟨13, dn_f2 (fun b5 h5 => ⟨13, ?_⟩) 12 0 a5 (by omega) (fun j hj => absurd hj (by omega))⟩
  refine dn_f42 (fun e v ρ par c5 c6 hF hC => ?_) 12 0 1 (dn_set (fun _ => false) 10 true) (fun _ => 0) (fun _ => 10) _ _ (by omega) (by omega) ⟨dn_B0 (by omega) (Or.inr (by omega)) a6, rfl, ?_⟩ (fun z _ _ h => absurd h (by omega))
  · by_cases g : v 11 = true
    · refine br_f ?_ (H1 e v ρ par c5 c6 hF g)
      rw [(hF.2.2 11 (by omega)).1 g]
      rcases (hF.1.2.2.2.1 11 (by omega) g).2.2.2 with z | z
      · exact absurd z (by decide)
      · exact nI_pos (by omega)
    · refine br_t ?_ (H0 v c5 c6 hF.1.2.1 (dn_bf g) hC)
      rw [(hF.2.2 11 (by omega)).2 (dn_bf g)]
      decide
  · intro z hz
    by_cases g : z = 10
    · subst g
      rw [dn_ss, pk_us]
      exact ⟨fun _ => rfl, fun t => absurd t (by decide)⟩
    · rw [dn_sn g, pk_un g]
      exact ⟨fun t => absurd t (by decide), fun _ => h5 z hz⟩
end
end
section
/-! ===== sendAlong ===== -/
/-- the residual capacities as numbers -/
def dn_R (r : Nat → Nat) (a4 : Nat → Int32) : Prop := ∀ j, j < 144 → a4 j = nI (r j) ∧ r j < 1000000
/-- the sum of a row's first n places -/
def dn_out (r : Nat → Nat) (x : Nat) : Nat → Nat
  | 0 => 0
  | n + 1 => dn_out r x n + r (x * 12 + n)
theorem dn_out_ne {r : Nat → Nat} {x k v : Nat} : ∀ n, (∀ w, w < n → x * 12 + w ≠ k) → dn_out (dn_set r k v) x n = dn_out r x n
  | 0, _ => rfl
  | n + 1, h => by
    show dn_out (dn_set r k v) x n + dn_set r k v (x * 12 + n) = dn_out r x n + r (x * 12 + n)
    rw [dn_out_ne n (fun w hw => h w (by omega)), dn_sn (h n (by omega))]
theorem dn_out_set {r : Nat → Nat} {x w v : Nat} : ∀ n, w < n → dn_out (dn_set r (x * 12 + w) v) x n + r (x * 12 + w) = dn_out r x n + v
  | 0, h => absurd h (by omega)
  | n + 1, h => by
    show dn_out (dn_set r (x * 12 + w) v) x n + dn_set r (x * 12 + w) v (x * 12 + n) + r (x * 12 + w) = dn_out r x n + r (x * 12 + n) + v
    by_cases g : w = n
    · subst g
      rw [dn_out_ne w (fun u hu => by omega), dn_ss]
      omega
    · have ih := dn_out_set (r := r) (x := x) (w := w) (v := v) n (by omega)
      rw [dn_sn (show x * 12 + n ≠ x * 12 + w by omega)]
      omega
/-- m sent over the edge from x to y -/
def dn_push (r : Nat → Nat) (x y m : Nat) : Nat → Nat := dn_set (dn_set r (x * 12 + y) (r (x * 12 + y) - m)) (y * 12 + x) (r (y * 12 + x) + m)
section
variable {r : Nat → Nat} {x y m : Nat}
theorem dn_push_xy (hx : x < 12) (hy : y < 12) (g : x ≠ y) : dn_push r x y m (x * 12 + y) = r (x * 12 + y) - m := by
  unfold dn_push
  rw [dn_sn (by omega), dn_ss]
theorem dn_push_yx : dn_push r x y m (y * 12 + x) = r (y * 12 + x) + m := dn_ss
theorem dn_push_ne {j : Nat} (h1 : j ≠ x * 12 + y) (h2 : j ≠ y * 12 + x) : dn_push r x y m j = r j := by
  unfold dn_push
  rw [dn_sn h2, dn_sn h1]
theorem dn_push_sum (hx : x < 12) (hy : y < 12) (g : x ≠ y) (hm : m ≤ r (x * 12 + y)) (a b : Nat) (ha : a < 12) (hb : b < 12) : dn_push r x y m (a * 12 + b) + dn_push r x y m (b * 12 + a) = r (a * 12 + b) + r (b * 12 + a) := by
  by_cases g1 : a = x ∧ b = y
  · obtain ⟨rfl, rfl⟩ := g1
    rw [dn_push_xy hx hy g, dn_push_yx]
    omega
  · by_cases g2 : a = y ∧ b = x
    · obtain ⟨rfl, rfl⟩ := g2
      rw [dn_push_xy hx hy g, dn_push_yx]
      omega
    · rw [dn_push_ne (by omega) (by omega), dn_push_ne (by omega) (by omega)]
theorem dn_push_outx (hx : x < 12) (hy : y < 12) (g : x ≠ y) (hm : m ≤ r (x * 12 + y)) : dn_out (dn_push r x y m) x 12 + m = dn_out r x 12 := by
  unfold dn_push
  rw [dn_out_ne 12 (fun w hw => by omega)]
  have h := dn_out_set (r := r) (x := x) (w := y) (v := r (x * 12 + y) - m) 12 hy
  omega
theorem dn_push_outy (hx : x < 12) (hy : y < 12) (g : x ≠ y) : dn_out (dn_push r x y m) y 12 = dn_out r y 12 + m := by
  unfold dn_push
  have h := dn_out_set (r := dn_set r (x * 12 + y) (r (x * 12 + y) - m)) (x := y) (w := x) (v := r (y * 12 + x) + m) 12 hx
  have h2 := dn_out_ne (r := r) (x := y) (k := x * 12 + y) (v := r (x * 12 + y) - m) 12 (fun w hw => by omega)
  rw [dn_sn (show y * 12 + x ≠ x * 12 + y by omega), h2] at h
  omega
theorem dn_push_out {w : Nat} (hx : x < 12) (hy : y < 12) (g1 : w ≠ x) (g2 : w ≠ y) : dn_out (dn_push r x y m) w 12 = dn_out r w 12 := by
  unfold dn_push
  rw [dn_out_ne 12 (fun u hu => by omega), dn_out_ne 12 (fun u hu => by omega)]
theorem dn_push_R {a4 : Nat → Int32} (hR : dn_R r a4) (hx : x < 12) (hy : y < 12) (g : x ≠ y) (hm : m ≤ r (x * 12 + y)) (hb : r (y * 12 + x) + m < 1000000) :
    dn_R (dn_push r x y m) (upd (upd a4 (x * 12 + y) (a4 (x * 12 + y) - nI m)) (y * 12 + x) (upd a4 (x * 12 + y) (a4 (x * 12 + y) - nI m) (y * 12 + x) + nI m)) := by
  intro j hj
  by_cases g2 : j = y * 12 + x
  · subst g2
    rw [dn_push_yx, pk_us, pk_un (by omega), (hR _ hj).1, nI_add]
    exact ⟨rfl, hb⟩
  · rw [pk_un g2]
    by_cases g1 : j = x * 12 + y
    · subst g1
      have h := hR _ hj
      rw [dn_push_xy hx hy g, pk_us, h.1, pk_sub hm]
      exact ⟨rfl, by omega⟩
    · rw [pk_un g1, dn_push_ne g1 g2]
      exact hR j hj
end
/-- along the way from y back to the source (at most c steps) every edge has room m -/
def dn_pt (par r : Nat → Nat) (m : Nat) : Nat → Nat → Prop
  | 0, _ => True
  | c + 1, y => y = 10 ∨ (m ≤ r (par y * 12 + y) ∧ dn_pt par r m c (par y))
theorem dn_pt10 (par r : Nat → Nat) (m : Nat) : ∀ c, dn_pt par r m c 10
  | 0 => trivial
  | _ + 1 => Or.inl rfl
section
variable {post : St2 → Prop} {cs bt bb bs : Int32} {a1 a2 a3 a5 a6 a7 : Nat → Int32}
theorem dn_s8 {a4 : Nat → Int32} {r : Nat → Nat} {e : Nat} {v : Nat → Bool} {ρ par : Nat → Nat} (hR : dn_R r a4) (hF : dn_F a4 v ρ par a5 a6 e)
    (H : ∀ m, 0 < m → m ≤ 2000000 → dn_pt par r m 12 11 → ∃ fu, wX_sendAlong_71 post (nI m) 3 cs bt bb bs fu 11 0 a1 a2 a3 a4 a5 a6 a7) :
    ∀ (c i y m : Nat), i + c = 12 → y < 12 → v y = true → ρ y ≤ c → 0 < m → m ≤ 2000000 → (∀ m', m' ≤ m → dn_pt par r m' c y → dn_pt par r m' 12 11) →
      wX_sendAlong_8 post 3 cs bt bb bs a1 a2 a3 a4 a5 a6 a7 (c + 1) (nI m) (nI y) (nI i)
  | 0, i, y, m, hi, hy, vy, hc, m0, m1, hp => by
    have e12 : i = 12 := by omega
    subst e12
    exact br_t (by decide) (H m m0 m1 (hp m (Nat.le_refl m) trivial))
  | c + 1, i, y, m, hi, hy, vy, hc, m0, m1, hp => by
    refine pk_le 12 i (fun z => absurd z (by omega)) (fun z0 => pk_eq y 10 (fun z => ?_) (fun z => ⟨pk_in y 12 hy, ?_⟩))
    · exact H m m0 m1 (hp m (Nat.le_refl m) (by rw [z]; exact dn_pt10 par r m (c + 1)))
    · obtain ⟨p1, p2, p3, p4⟩ : par y < 12 ∧ v (par y) = true ∧ ρ (par y) < ρ y ∧ dn_E a4 (par y) y := by
        rcases (hF.1.2.2.2.1 y hy vy).2.2.2 with g | g
        · exact absurd g z
        · exact g
      rw [nI_clamp (show y < 2 ^ 31 by omega)]
      refine nm_r ((hF.2.2 y hy).1 vy) ?_
      obtain ⟨r1, r2⟩ := hR (par y * 12 + y) (by omega)
      have r3 : 0 < r (par y * 12 + y) := by
        rcases Nat.eq_zero_or_pos (r (par y * 12 + y)) with g | g
        · rw [g] at r1
          exact absurd (show a4 (par y * 12 + y) ≤ 0 by rw [r1]; decide) p4
        · exact g
      rw [dn_ixc p1 hy, r1]
      refine ⟨pk_in _ 144 (by omega) (dn_ix _ _), pk_le m (r (par y * 12 + y)) (fun g => nm_r (nI_1 i) ?_) (fun g => ⟨pk_in _ 144 (by omega) (dn_ix _ _), nm_e (nm_r (nI_1 i) ?_)⟩)⟩
      · exact dn_s8 hR hF H c (i + 1) (par y) m (by omega) p1 p2 (by omega) m0 m1 (fun m' h1 h2 => hp m' h1 (Or.inr ⟨by omega, h2⟩))
      · exact dn_s8 hR hF H c (i + 1) (par y) (r (par y * 12 + y)) (by omega) p1 p2 (by omega) r3 (by omega) (fun m' h1 h2 => hp m' (by omega) (Or.inr ⟨h1, h2⟩))
/-- what a call of sendAlong leaves: sums of opposite edges as before, rows as before but the source's, which lost m -/
def dn_sent (r r' : Nat → Nat) (m : Nat) : Prop :=
  (∀ a b, a < 12 → b < 12 → r' (a * 12 + b) + r' (b * 12 + a) = r (a * 12 + b) + r (b * 12 + a)) ∧
  (∀ w, w < 10 → dn_out r' w 12 = dn_out r w 12) ∧ dn_out r' 10 12 + m = dn_out r 10 12
theorem dn_s71 {b4 : Nat → Int32} {r0 : Nat → Nat} {m e : Nat} {v : Nat → Bool} {ρ par : Nat → Nat} (hb : ∀ a b, a < 12 → b < 12 → r0 (a * 12 + b) + r0 (b * 12 + a) < 1000000) (hF : dn_F b4 v ρ par a5 a6 e)
    (H : ∀ (r : Nat → Nat) (a4 : Nat → Int32), dn_R r a4 → dn_sent r0 r m → post (3, cs, bt, bb, bs, a1, a2, a3, a4, a5, a6, a7)) :
    ∀ (c i y : Nat) (r : Nat → Nat) (a4 : Nat → Int32), i + c = 12 → y < 12 → v y = true → ρ y ≤ c → dn_R r a4 → dn_pt par r0 m c y →
      (∀ a b, a < 12 → b < 12 → r (a * 12 + b) + r (b * 12 + a) = r0 (a * 12 + b) + r0 (b * 12 + a)) →
      (∀ w, w < 11 → dn_out r w 12 + (if w = y then m else 0) = dn_out r0 w 12) →
      (∀ z, z < 12 → v z = true → z ≠ 10 → ρ z ≤ ρ y → r (par z * 12 + z) = r0 (par z * 12 + z)) →
      wX_sendAlong_71 post (nI m) 3 cs bt bb bs (c + 1) (nI y) (nI i) a1 a2 a3 a4 a5 a6 a7 := by
  have fin : ∀ (r : Nat → Nat) (a4 : Nat → Int32) (y : Nat), y = 10 → dn_R r a4 →
      (∀ a b, a < 12 → b < 12 → r (a * 12 + b) + r (b * 12 + a) = r0 (a * 12 + b) + r0 (b * 12 + a)) →
      (∀ w, w < 11 → dn_out r w 12 + (if w = y then m else 0) = dn_out r0 w 12) → post (3, cs, bt, bb, bs, a1, a2, a3, a4, a5, a6, a7) := by
    intro r a4 y ey hR hs ho
    subst ey
    refine H r a4 hR ⟨hs, fun w hw => ?_, ?_⟩
    · have h := ho w (by omega)
      rw [if_neg (by omega)] at h
      exact h
    · have h := ho 10 (by omega)
      rw [if_pos rfl] at h
      exact h
  intro c
  induction c with
  | zero =>
    intro i y r a4 hi hy vy hc hR hp hs ho ha
    have e12 : i = 12 := by omega
    subst e12
    have ey : y = 10 := dn_Binj hF.1 hy vy (by omega) hF.1.2.1 (by rw [hF.1.2.2.1]; omega)
    exact br_t (by decide) (fin r a4 y ey hR hs ho)
  | succ c ih =>
    intro i y r a4 hi hy vy hc hR hp hs ho ha
    refine pk_le 12 i (fun z => absurd z (by omega)) (fun z0 => pk_eq y 10 (fun z => fin r a4 y z hR hs ho) (fun z => ⟨pk_in y 12 hy, ?_⟩))
    obtain ⟨p1, p2, p3, p4⟩ : par y < 12 ∧ v (par y) = true ∧ ρ (par y) < ρ y ∧ dn_E b4 (par y) y := by
      rcases (hF.1.2.2.2.1 y hy vy).2.2.2 with g | g
      · exact absurd g z
      · exact g
    obtain ⟨q1, q2⟩ : m ≤ r0 (par y * 12 + y) ∧ dn_pt par r0 m c (par y) := by
      rcases hp with g | g
      · exact absurd g z
      · exact g
    have ne : par y ≠ y := fun g => by rw [g] at p3; omega
    have q3 : m ≤ r (par y * 12 + y) := by rw [ha y hy vy z (Nat.le_refl _)]; exact q1
    have q4 := hs (par y) y p1 hy
    have q5 := hb (par y) y p1 hy
    rw [nI_clamp (show y < 2 ^ 31 by omega)]
    refine nm_r ((hF.2.2 y hy).1 vy) ?_
    rw [dn_ixc p1 hy, dn_ixc hy p1]
    refine ⟨pk_in _ 144 (by omega) (dn_ix _ _), pk_in _ 144 (by omega) (dn_ix _ _), nm_e ⟨pk_in _ 144 (by omega) (dn_ix _ _), pk_in _ 144 (by omega) (dn_ix _ _), nm_e (nm_r (nI_1 i) ?_)⟩⟩
    refine ih (i + 1) (par y) (dn_push r (par y) y m) _ (by omega) p1 p2 (by omega) (dn_push_R hR p1 hy ne q3 (by omega)) q2 ?_ ?_ ?_
    · intro a b hA hB
      rw [dn_push_sum p1 hy ne q3 a b hA hB]
      exact hs a b hA hB
    · intro w hw
      have h := ho w hw
      by_cases g1 : w = y
      · subst g1
        rw [if_pos rfl] at h
        rw [if_neg (fun g => ne g.symm), dn_push_outy p1 hy ne]
        exact h
      · rw [if_neg g1] at h
        by_cases g2 : w = par y
        · rw [if_pos g2, g2, dn_push_outx p1 hy ne q3, ← g2]
          exact h
        · rw [if_neg g2, dn_push_out p1 hy g2 g1]
          exact h
    · intro z' hz' vz' nz' hr'
      have h1 : z' ≠ y := fun g => by rw [g] at hr'; omega
      have h2 : ¬ (par z' = y ∧ z' = par y) := by
        rintro ⟨g1, g2⟩
        rcases (hF.1.2.2.2.1 z' hz' vz').2.2.2 with g | g
        · exact nz' g
        · have := g.2.2.1
          rw [g1] at this
          omega
      rw [dn_push_ne (by omega) (by omega)]
      exact ha z' hz' vz' nz' (by omega)
theorem dn_sendAlong {a4 : Nat → Int32} {r : Nat → Nat} {e : Nat} {v : Nat → Bool} {ρ par : Nat → Nat} (hR : dn_R r a4) (hb : ∀ a b, a < 12 → b < 12 → r (a * 12 + b) + r (b * 12 + a) < 1000000) (hF : dn_F a4 v ρ par a5 a6 e) (hv : v 11 = true)
    (H : ∀ (m : Nat) (r' : Nat → Nat) (a4' : Nat → Int32), 0 < m → dn_R r' a4' → dn_sent r r' m → post (3, cs, bt, bb, bs, a1, a2, a3, a4', a5, a6, a7)) :
    wpX_sendAlong post (3, cs, bt, bb, bs, a1, a2, a3, a4, a5, a6, a7) := by
  have he := dn_Ble hF.1
  have hr := (hF.1.2.2.2.1 11 (by omega) hv).2.1
  refine ⟨13, dn_s8 hR hF (fun m m0 m1 hp => ⟨13, ?_⟩) 12 0 11 2000000 (by omega) (by omega) hv (by omega) (by omega) (by omega) (fun m' _ h => h)⟩
  refine dn_s71 hb hF (fun r' a4' hR' hs' => H m r' a4' m0 hR' hs') 12 0 11 r a4 (by omega) (by omega) hv (by omega) hR hp (fun _ _ _ _ => rfl) (fun w hw => ?_) (fun _ _ _ _ _ => rfl)
  rw [if_neg (by omega)]
  rfl
end
end
section
/-! ===== buildNetwork ===== -/
/-- the graph of the law: pairs as numbers, no bonus, every vertex free -/
def dn_pr (a b d u v : Nat) : Nat := if u * 10 + v = 1 then a else if u * 10 + v = 2 then b else if u * 10 + v = 10 then a else if u * 10 + v = 12 then d else if u * 10 + v = 20 then b else if u * 10 + v = 21 then d else 0
def dn_G (a b d : Nat) (a1 a2 a3 : Nat → Int32) : Prop := (∀ u v, u < 3 → v < 3 → a1 (u * 10 + v) = nI (dn_pr a b d u v)) ∧ (∀ u, u < 3 → a2 u = 0) ∧ (∀ u, u < 3 → a3 u = 0)
theorem dn_pr_mul (g a b d u v : Nat) : g * dn_pr a b d u v = dn_pr (g * a) (g * b) (g * d) u v := by
  unfold dn_pr
  repeat' split
  all_goals rfl
theorem dn_pr_le {a b d k : Nat} (ha : a ≤ k) (hb : b ≤ k) (hd : d ≤ k) (u v : Nat) : dn_pr a b d u v ≤ k := by
  unfold dn_pr
  repeat' split
  all_goals omega
/-- one vertex's row of the network -/
def dn_row (q : Nat → Nat → Nat) (p u : Nat) (C : Nat → Nat) : Nat → Nat :=
  dn_set (dn_set (dn_set (dn_set (dn_set C (u * 12 + 0) (q u 0)) (u * 12 + 1) (q u 1)) (u * 12 + 2) (q u 2)) (u * 12 + 11) (2 * p - (0 + q u 0 + q u 1 + q u 2))) (120 + u) (0 + q u 0 + q u 1 + q u 2 - 2 * p)
def dn_c (q : Nat → Nat → Nat) (p : Nat) : Nat → Nat := dn_row q p 2 (dn_row q p 1 (dn_row q p 0 (fun _ => 0)))
theorem dn_Rset {C : Nat → Nat} {a4 : Nat → Int32} {k x : Nat} (h : dn_R C a4) (hx : x < 1000000) : dn_R (dn_set C k x) (upd a4 k (nI x)) := by
  intro j hj
  by_cases g : j = k
  · rw [g, dn_ss, pk_us]
    exact ⟨rfl, hx⟩
  · rw [dn_sn g, pk_un g]
    exact h j hj
theorem dn_Rset0 {C : Nat → Nat} {a4 : Nat → Int32} {k : Nat} (h : dn_R C a4) (hk : C k = 0) : dn_R (dn_set C k 0) a4 := by
  intro j hj
  by_cases g : j = k
  · have h2 := h j hj
    rw [g, hk] at h2
    rw [g, dn_ss]
    exact h2
  · rw [dn_sn g]
    exact h j hj
theorem dn_Rset0b {C : Nat → Nat} {a4 : Nat → Int32} {k l x : Nat} (h : dn_R (dn_set C l x) a4) (hk : C k = 0) (hkl : k ≠ l) : dn_R (dn_set (dn_set C k 0) l x) a4 := by
  intro j hj
  have h2 := h j hj
  by_cases g : j = l
  · rw [g, dn_ss] at h2 ⊢
    exact h2
  · rw [dn_sn g] at h2 ⊢
    by_cases g2 : j = k
    · rw [g2, dn_ss]
      rw [g2, hk] at h2
      exact h2
    · rw [dn_sn g2]
      exact h2
theorem dn_am (g p : Nat) : ((2 : Int32) * nI g) * (0 : Int32) - (2 : Int32) * nI p = nI 0 - nI (2 * p) := by
  rw [Int32.mul_zero, show (2 : Int32) = nI 2 from rfl, pk_mul]
  rfl
theorem dn_ix120 (u : Nat) : (120 : Int32) + nI u = nI (120 + u) := nI_add 120 u
section
variable {post : St2 → Prop} {cs bt bb bs : Int32} {a1 a2 a3 a5 a6 a7 : Nat → Int32} {a b d g p : Nat}
theorem dn_b51s {J : Int32 → (Nat → Int32) → (Nat → Int32) → (Nat → Int32) → (Nat → Int32) → (Nat → Int32) → (Nat → Int32) → (Nat → Int32) → Prop} {a4 : Nat → Int32} {u n s t : Nat} (k : Nat) (hG : dn_G a b d a1 a2 a3) (hu : u < 3) (hk : k < 3)
    (H : wX_buildNetwork_51 post J (nI g) (nI p) (nI u) 3 cs bt bb bs n (nI (s + dn_pr (g * a) (g * b) (g * d) u k) - nI t) (nI (k + 1)) a1 a2 a3 (upd a4 (u * 12 + k) (nI (dn_pr (g * a) (g * b) (g * d) u k))) a5 a6 a7) :
    wX_buildNetwork_51 post J (nI g) (nI p) (nI u) 3 cs bt bb bs (n + 1) (nI s - nI t) (nI k) a1 a2 a3 a4 a5 a6 a7 := by
  refine pk_le 3 k (fun z => absurd z (by omega)) (fun _ => ?_)
  have e1 : (nI u * 10 + nI k).toNatClampNeg = u * 10 + k := by rw [dn_ix10, nI_clamp (by omega)]
  rw [e1, dn_ixc (by omega) (by omega), hG.1 u k hu hk, pk_mul, dn_pr_mul, dn_acc]
  exact ⟨pk_in _ 100 (by omega) (dn_ix10 u k), nm_e ⟨pk_in _ 100 (by omega) (dn_ix10 u k), pk_in _ 144 (by omega) (dn_ix u k), nm_e (nm_r (nI_1 k) H)⟩⟩
theorem dn_b145 {J : Int32 → (Nat → Int32) → (Nat → Int32) → (Nat → Int32) → (Nat → Int32) → (Nat → Int32) → (Nat → Int32) → (Nat → Int32) → Prop} {a4 : Nat → Int32} {x1 x2 : Int32} {u : Nat} (hG : dn_G a b d a1 a2 a3) (hu : u < 3) (H : J (nI (u + 1)) a1 a2 a3 a4 a5 a6 a7) :
    wX_buildNetwork_145 post J x1 x2 (nI u) 3 cs bt bb bs a1 a2 a3 a4 a5 a6 a7 := by
  have e : a3 (nI u).toNatClampNeg = 0 := by rw [nI_clamp (by omega), hG.2.2 u hu]
  exact ⟨pk_in u 10 (by omega), br_f (by rw [e]; decide) ⟨pk_in u 10 (by omega), br_f (by rw [e]; decide) (nm_r (nI_1 u) H)⟩⟩
theorem dn_brow {J : Int32 → (Nat → Int32) → (Nat → Int32) → (Nat → Int32) → (Nat → Int32) → (Nat → Int32) → (Nat → Int32) → (Nat → Int32) → Prop} {a4 : Nat → Int32} {C : Nat → Nat} {u : Nat} (hG : dn_G a b d a1 a2 a3) (hu : u < 3) (hA : g * a ≤ 1000) (hB : g * b ≤ 1000) (hD : g * d ≤ 1000) (hp : p ≤ 2000)
    (hR : dn_R C a4) (hC1 : C (u * 12 + 11) = 0) (hC2 : C (120 + u) = 0) (H : ∀ a4', dn_R (dn_row (dn_pr (g * a) (g * b) (g * d)) p u C) a4' → J (nI (u + 1)) a1 a2 a3 a4' a5 a6 a7) :
    ∃ fu, wX_buildNetwork_51 post J (nI g) (nI p) (nI u) 3 cs bt bb bs fu (nI 0 - nI (2 * p)) 0 a1 a2 a3 a4 a5 a6 a7 := by
  have b0 := dn_pr_le hA hB hD u 0
  have b1 := dn_pr_le hA hB hD u 1
  have b2 := dn_pr_le hA hB hD u 2
  refine ⟨4, dn_b51s 0 hG hu (by omega) (dn_b51s 1 hG hu (by omega) (dn_b51s 2 hG hu (by omega) (br_t (by decide) ?_)))⟩
  have hR3 := dn_Rset (k := u * 12 + 2) (dn_Rset (k := u * 12 + 1) (dn_Rset (k := u * 12 + 0) hR (show dn_pr (g * a) (g * b) (g * d) u 0 < 1000000 by omega)) (show dn_pr (g * a) (g * b) (g * d) u 1 < 1000000 by omega)) (show dn_pr (g * a) (g * b) (g * d) u 2 < 1000000 by omega)
  generalize hs : 0 + dn_pr (g * a) (g * b) (g * d) u 0 + dn_pr (g * a) (g * b) (g * d) u 1 + dn_pr (g * a) (g * b) (g * d) u 2 = s at H ⊢
  have H2 := H
  unfold dn_row at H2
  rw [hs] at H2
  have c1 : dn_set (dn_set (dn_set C (u * 12 + 0) (dn_pr (g * a) (g * b) (g * d) u 0)) (u * 12 + 1) (dn_pr (g * a) (g * b) (g * d) u 1)) (u * 12 + 2) (dn_pr (g * a) (g * b) (g * d) u 2) (u * 12 + 11) = 0 := by
    rw [dn_sn (by omega), dn_sn (by omega), dn_sn (by omega)]; exact hC1
  have c2 : dn_set (dn_set (dn_set C (u * 12 + 0) (dn_pr (g * a) (g * b) (g * d) u 0)) (u * 12 + 1) (dn_pr (g * a) (g * b) (g * d) u 1)) (u * 12 + 2) (dn_pr (g * a) (g * b) (g * d) u 2) (120 + u) = 0 := by
    rw [dn_sn (by omega), dn_sn (by omega), dn_sn (by omega)]; exact hC2
  refine br_c (fun z => ?_) (fun z => ?_)
  · have zl : s ≤ 2 * p := (dn_sub_le (by omega) (by omega)).mp z
    have ei : (nI u * 12 + 11).toNatClampNeg = u * 12 + 11 := by rw [show (11 : Int32) = nI 11 from rfl, dn_ixc (by omega) (by omega)]
    rw [ei, dn_sub_neg zl]
    refine ⟨pk_in (u * 12 + 11) 144 (by omega) (dn_ix u 11), nm_e (dn_b145 hG hu (H2 _ ?_))⟩
    rw [show s - 2 * p = 0 by omega]
    exact dn_Rset0 (dn_Rset hR3 (by omega)) (by rw [dn_sn (by omega)]; exact c2)
  · have zl : ¬ s ≤ 2 * p := fun t => z ((dn_sub_le (by omega) (by omega)).mpr t)
    rw [dn_ix120, nI_clamp (by omega), pk_sub (by omega)]
    refine ⟨pk_in (120 + u) 144 (by omega) rfl, nm_e (dn_b145 hG hu (H2 _ ?_))⟩
    rw [show 2 * p - s = 0 by omega]
    exact dn_Rset0b (dn_Rset hR3 (by omega)) c1 (by omega)
theorem dn_b24s {a4 : Nat → Int32} {C : Nat → Nat} {u n : Nat} (hG : dn_G a b d a1 a2 a3) (hu : u < 3) (hA : g * a ≤ 1000) (hB : g * b ≤ 1000) (hD : g * d ≤ 1000) (hp : p ≤ 2000)
    (hR : dn_R C a4) (hC1 : C (u * 12 + 11) = 0) (hC2 : C (120 + u) = 0) (H : ∀ a4', dn_R (dn_row (dn_pr (g * a) (g * b) (g * d)) p u C) a4' → wX_buildNetwork_24 post (nI g) (nI p) 3 cs bt bb bs n (nI (u + 1)) a1 a2 a3 a4' a5 a6 a7) :
    wX_buildNetwork_24 post (nI g) (nI p) 3 cs bt bb bs (n + 1) (nI u) a1 a2 a3 a4 a5 a6 a7 := by
  refine pk_le 3 u (fun z => absurd z (by omega)) (fun _ => ⟨pk_in u 10 (by omega), nm_r ?_ (dn_brow hG hu hA hB hD hp hR hC1 hC2 H)⟩)
  rw [nI_clamp (by omega), hG.2.1 u hu]
  exact dn_am g p
theorem dn_b2 {x1 x2 : Int32} (H : ∀ a4 : Nat → Int32, dn_R (fun _ => 0) a4 → ∃ fu, wX_buildNetwork_24 post x1 x2 3 cs bt bb bs fu 0 a1 a2 a3 a4 a5 a6 a7) :
    ∀ (c i : Nat) (a4 : Nat → Int32), i + c = 144 → (∀ j, j < i → a4 j = 0) → wX_buildNetwork_2 post x1 x2 3 cs bt bb bs (c + 1) (nI i) a1 a2 a3 a4 a5 a6 a7
  | 0, i, a4, hi, h => by
    have e : i = 144 := by omega
    subst e
    exact br_t (by decide) (H a4 (fun j hj => ⟨h j hj, show 0 < 1000000 by decide⟩))
  | c + 1, i, a4, hi, h => by
    refine br_f (nI_ge (b := 144) (by omega) (by decide)) ⟨pk_in i 144 (by omega), nm_e (nm_r (nI_1 i) (dn_b2 H c (i + 1) _ (by omega) ?_))⟩
    rw [nI_clamp (show i < 2 ^ 31 by omega)]
    intro j hj
    by_cases e : j = i
    · rw [e, pk_us]
    · rw [pk_un e]; exact h j (by omega)
theorem dn_build {a4 : Nat → Int32} (hG : dn_G a b d a1 a2 a3) (hA : g * a ≤ 1000) (hB : g * b ≤ 1000) (hD : g * d ≤ 1000) (hp : p ≤ 2000)
    (H : ∀ a4', dn_R (dn_c (dn_pr (g * a) (g * b) (g * d)) p) a4' → post (3, cs, bt, bb, bs, a1, a2, a3, a4', a5, a6, a7)) :
    wpX_buildNetwork post (3, cs, bt, bb, bs, a1, a2, a3, a4, a5, a6, a7) (nI g) (nI p) := by
  refine ⟨145, dn_b2 (fun b4 h4 => ⟨4, ?_⟩) 144 0 a4 (by omega) (fun j hj => absurd hj (by omega))⟩
  exact dn_b24s (u := 0) hG (by omega) hA hB hD hp h4 rfl rfl (fun b5 h5 => dn_b24s (u := 1) hG (by omega) hA hB hD hp h5 rfl rfl (fun b6 h6 => dn_b24s (u := 2) hG (by omega) hA hB hD hp h6 rfl rfl (fun b7 h7 => br_t (by decide) (H b7 h7))))
end
end
section
/-! ===== worth of a set, and minimum cuts over three vertices, pure ===== -/
def dn_wt (a b d T : Nat) : Nat := if T = 3 then a else if T = 5 then b else if T = 6 then d else if T = 7 then a + b + d else 0
def dn_k (T : Nat) : Nat := T % 2 + T / 2 % 2 + T / 4 % 2
/-- what the set T is worth at the price p, the weights being multiplied already -/
def dn_V (A B D p T : Nat) : Int := (dn_wt A B D T : Int) - ((p * dn_k T : Nat) : Int)
theorem dn_V0 (A B D p : Nat) : dn_V A B D p 0 = 0 := by simp [dn_V, dn_wt, dn_k]
theorem dn_V1 (A B D p : Nat) : dn_V A B D p 1 = -(p : Int) := by simp [dn_V, dn_wt, dn_k]
theorem dn_V2 (A B D p : Nat) : dn_V A B D p 2 = -(p : Int) := by simp [dn_V, dn_wt, dn_k]
theorem dn_V3 (A B D p : Nat) : dn_V A B D p 3 = (A : Int) - 2 * (p : Int) := by simp [dn_V, dn_wt, dn_k]; omega
theorem dn_V4 (A B D p : Nat) : dn_V A B D p 4 = -(p : Int) := by simp [dn_V, dn_wt, dn_k]
theorem dn_V5 (A B D p : Nat) : dn_V A B D p 5 = (B : Int) - 2 * (p : Int) := by simp [dn_V, dn_wt, dn_k]; omega
theorem dn_V6 (A B D p : Nat) : dn_V A B D p 6 = (D : Int) - 2 * (p : Int) := by simp [dn_V, dn_wt, dn_k]; omega
theorem dn_V7 (A B D p : Nat) : dn_V A B D p 7 = (A : Int) + (B : Int) + (D : Int) - 3 * (p : Int) := by simp [dn_V, dn_wt, dn_k]; omega
/-- S is worth most, and every set that is worth as much lies in it -/
def dn_max (A B D p S : Nat) : Prop := S < 8 ∧ ∀ T, T < 8 → dn_V A B D p T ≤ dn_V A B D p S ∧ (dn_V A B D p T = dn_V A B D p S → T ||| S = S)
theorem dn_lt8 {P : Nat → Prop} (h0 : P 0) (h1 : P 1) (h2 : P 2) (h3 : P 3) (h4 : P 4) (h5 : P 5) (h6 : P 6) (h7 : P 7) : ∀ T, T < 8 → P T := by
  intro T hT
  have h : T = 0 ∨ T = 1 ∨ T = 2 ∨ T = 3 ∨ T = 4 ∨ T = 5 ∨ T = 6 ∨ T = 7 := by omega
  rcases h with h | h | h | h | h | h | h | h <;> (rw [h]; assumption)
def dn_mk (v : Nat → Bool) : Nat → Nat
  | 0 => 0
  | k + 1 => dn_mk v k + (if v k = true then 0 else 2 ^ k)

theorem dn_mc0 {A B D p r01 r10 r02 r20 r12 r21 s0 s1 s2 t0 t1 t2 n0 n1 n2 : Nat} (h01 : r01 + r10 = 2 * A) (h02 : r02 + r20 = 2 * B) (h12 : r12 + r21 = 2 * D) (F0 : s0 + 2 * p = t0 + r01 + r02) (F1 : s1 + 2 * p = t1 + r10 + r12) (F2 : s2 + 2 * p = t2 + r20 + r21) (zt0 : t0 = 0) (zt1 : t1 = 0) (zt2 : t2 = 0) : dn_max A B D p 7 := by
  refine ⟨by decide, dn_lt8 ?_ ?_ ?_ ?_ ?_ ?_ ?_ ?_⟩
  all_goals simp only [dn_V0, dn_V1, dn_V2, dn_V3, dn_V4, dn_V5, dn_V6, dn_V7]
  · exact ⟨by omega, fun _ => by decide⟩
  · exact ⟨by omega, fun _ => by decide⟩
  · exact ⟨by omega, fun _ => by decide⟩
  · exact ⟨by omega, fun _ => by decide⟩
  · exact ⟨by omega, fun _ => by decide⟩
  · exact ⟨by omega, fun _ => by decide⟩
  · exact ⟨by omega, fun _ => by decide⟩
  · exact ⟨by omega, fun _ => by decide⟩
theorem dn_mc1 {A B D p r01 r10 r02 r20 r12 r21 s0 s1 s2 t0 t1 t2 n0 n1 n2 : Nat} (h01 : r01 + r10 = 2 * A) (h02 : r02 + r20 = 2 * B) (h12 : r12 + r21 = 2 * D) (F0 : s0 + 2 * p = t0 + r01 + r02) (F1 : s1 + 2 * p = t1 + r10 + r12) (F2 : s2 + 2 * p = t2 + r20 + r21) (zs0 : s0 = 0) (zt1 : t1 = 0) (zt2 : t2 = 0) (z10 : r10 = 0) (z20 : r20 = 0) (e0 : 0 < t0) : dn_max A B D p 6 := by
  refine ⟨by decide, dn_lt8 ?_ ?_ ?_ ?_ ?_ ?_ ?_ ?_⟩
  all_goals simp only [dn_V0, dn_V1, dn_V2, dn_V3, dn_V4, dn_V5, dn_V6, dn_V7]
  · exact ⟨by omega, fun _ => by decide⟩
  · exact ⟨by omega, fun h => absurd h (by omega)⟩
  · exact ⟨by omega, fun _ => by decide⟩
  · exact ⟨by omega, fun h => absurd h (by omega)⟩
  · exact ⟨by omega, fun _ => by decide⟩
  · exact ⟨by omega, fun h => absurd h (by omega)⟩
  · exact ⟨by omega, fun _ => by decide⟩
  · exact ⟨by omega, fun h => absurd h (by omega)⟩
theorem dn_mc2 {A B D p r01 r10 r02 r20 r12 r21 s0 s1 s2 t0 t1 t2 n0 n1 n2 : Nat} (h01 : r01 + r10 = 2 * A) (h02 : r02 + r20 = 2 * B) (h12 : r12 + r21 = 2 * D) (F0 : s0 + 2 * p = t0 + r01 + r02) (F1 : s1 + 2 * p = t1 + r10 + r12) (F2 : s2 + 2 * p = t2 + r20 + r21) (zt0 : t0 = 0) (zs1 : s1 = 0) (zt2 : t2 = 0) (z01 : r01 = 0) (z21 : r21 = 0) (e1 : 0 < t1) : dn_max A B D p 5 := by
  refine ⟨by decide, dn_lt8 ?_ ?_ ?_ ?_ ?_ ?_ ?_ ?_⟩
  all_goals simp only [dn_V0, dn_V1, dn_V2, dn_V3, dn_V4, dn_V5, dn_V6, dn_V7]
  · exact ⟨by omega, fun _ => by decide⟩
  · exact ⟨by omega, fun _ => by decide⟩
  · exact ⟨by omega, fun h => absurd h (by omega)⟩
  · exact ⟨by omega, fun h => absurd h (by omega)⟩
  · exact ⟨by omega, fun _ => by decide⟩
  · exact ⟨by omega, fun _ => by decide⟩
  · exact ⟨by omega, fun h => absurd h (by omega)⟩
  · exact ⟨by omega, fun h => absurd h (by omega)⟩
theorem dn_mc3 {A B D p r01 r10 r02 r20 r12 r21 s0 s1 s2 t0 t1 t2 n0 n1 n2 : Nat} (h01 : r01 + r10 = 2 * A) (h02 : r02 + r20 = 2 * B) (h12 : r12 + r21 = 2 * D) (F0 : s0 + 2 * p = t0 + r01 + r02) (F1 : s1 + 2 * p = t1 + r10 + r12) (F2 : s2 + 2 * p = t2 + r20 + r21) (zs0 : s0 = 0) (zs1 : s1 = 0) (zt2 : t2 = 0) (z20 : r20 = 0) (z21 : r21 = 0) (e0 : 0 < t0 ∨ (n1 < n0 ∧ 0 < r01)) (e1 : 0 < t1 ∨ (n0 < n1 ∧ 0 < r10)) : dn_max A B D p 4 := by
  refine ⟨by decide, dn_lt8 ?_ ?_ ?_ ?_ ?_ ?_ ?_ ?_⟩
  all_goals simp only [dn_V0, dn_V1, dn_V2, dn_V3, dn_V4, dn_V5, dn_V6, dn_V7]
  · exact ⟨by omega, fun _ => by decide⟩
  · exact ⟨by omega, fun h => absurd h (by omega)⟩
  · exact ⟨by omega, fun h => absurd h (by omega)⟩
  · exact ⟨by omega, fun h => absurd h (by omega)⟩
  · exact ⟨by omega, fun _ => by decide⟩
  · exact ⟨by omega, fun h => absurd h (by omega)⟩
  · exact ⟨by omega, fun h => absurd h (by omega)⟩
  · exact ⟨by omega, fun h => absurd h (by omega)⟩
theorem dn_mc4 {A B D p r01 r10 r02 r20 r12 r21 s0 s1 s2 t0 t1 t2 n0 n1 n2 : Nat} (h01 : r01 + r10 = 2 * A) (h02 : r02 + r20 = 2 * B) (h12 : r12 + r21 = 2 * D) (F0 : s0 + 2 * p = t0 + r01 + r02) (F1 : s1 + 2 * p = t1 + r10 + r12) (F2 : s2 + 2 * p = t2 + r20 + r21) (zt0 : t0 = 0) (zt1 : t1 = 0) (zs2 : s2 = 0) (z02 : r02 = 0) (z12 : r12 = 0) (e2 : 0 < t2) : dn_max A B D p 3 := by
  refine ⟨by decide, dn_lt8 ?_ ?_ ?_ ?_ ?_ ?_ ?_ ?_⟩
  all_goals simp only [dn_V0, dn_V1, dn_V2, dn_V3, dn_V4, dn_V5, dn_V6, dn_V7]
  · exact ⟨by omega, fun _ => by decide⟩
  · exact ⟨by omega, fun _ => by decide⟩
  · exact ⟨by omega, fun _ => by decide⟩
  · exact ⟨by omega, fun _ => by decide⟩
  · exact ⟨by omega, fun h => absurd h (by omega)⟩
  · exact ⟨by omega, fun h => absurd h (by omega)⟩
  · exact ⟨by omega, fun h => absurd h (by omega)⟩
  · exact ⟨by omega, fun h => absurd h (by omega)⟩
theorem dn_mc5 {A B D p r01 r10 r02 r20 r12 r21 s0 s1 s2 t0 t1 t2 n0 n1 n2 : Nat} (h01 : r01 + r10 = 2 * A) (h02 : r02 + r20 = 2 * B) (h12 : r12 + r21 = 2 * D) (F0 : s0 + 2 * p = t0 + r01 + r02) (F1 : s1 + 2 * p = t1 + r10 + r12) (F2 : s2 + 2 * p = t2 + r20 + r21) (zs0 : s0 = 0) (zt1 : t1 = 0) (zs2 : s2 = 0) (z10 : r10 = 0) (z12 : r12 = 0) (e0 : 0 < t0 ∨ (n2 < n0 ∧ 0 < r02)) (e2 : 0 < t2 ∨ (n0 < n2 ∧ 0 < r20)) : dn_max A B D p 2 := by
  refine ⟨by decide, dn_lt8 ?_ ?_ ?_ ?_ ?_ ?_ ?_ ?_⟩
  all_goals simp only [dn_V0, dn_V1, dn_V2, dn_V3, dn_V4, dn_V5, dn_V6, dn_V7]
  · exact ⟨by omega, fun _ => by decide⟩
  · exact ⟨by omega, fun h => absurd h (by omega)⟩
  · exact ⟨by omega, fun _ => by decide⟩
  · exact ⟨by omega, fun h => absurd h (by omega)⟩
  · exact ⟨by omega, fun h => absurd h (by omega)⟩
  · exact ⟨by omega, fun h => absurd h (by omega)⟩
  · exact ⟨by omega, fun h => absurd h (by omega)⟩
  · exact ⟨by omega, fun h => absurd h (by omega)⟩
theorem dn_mc6 {A B D p r01 r10 r02 r20 r12 r21 s0 s1 s2 t0 t1 t2 n0 n1 n2 : Nat} (h01 : r01 + r10 = 2 * A) (h02 : r02 + r20 = 2 * B) (h12 : r12 + r21 = 2 * D) (F0 : s0 + 2 * p = t0 + r01 + r02) (F1 : s1 + 2 * p = t1 + r10 + r12) (F2 : s2 + 2 * p = t2 + r20 + r21) (zt0 : t0 = 0) (zs1 : s1 = 0) (zs2 : s2 = 0) (z01 : r01 = 0) (z02 : r02 = 0) (e1 : 0 < t1 ∨ (n2 < n1 ∧ 0 < r12)) (e2 : 0 < t2 ∨ (n1 < n2 ∧ 0 < r21)) : dn_max A B D p 1 := by
  refine ⟨by decide, dn_lt8 ?_ ?_ ?_ ?_ ?_ ?_ ?_ ?_⟩
  all_goals simp only [dn_V0, dn_V1, dn_V2, dn_V3, dn_V4, dn_V5, dn_V6, dn_V7]
  · exact ⟨by omega, fun _ => by decide⟩
  · exact ⟨by omega, fun _ => by decide⟩
  · exact ⟨by omega, fun h => absurd h (by omega)⟩
  · exact ⟨by omega, fun h => absurd h (by omega)⟩
  · exact ⟨by omega, fun h => absurd h (by omega)⟩
  · exact ⟨by omega, fun h => absurd h (by omega)⟩
  · exact ⟨by omega, fun h => absurd h (by omega)⟩
  · exact ⟨by omega, fun h => absurd h (by omega)⟩
theorem dn_mc7 {A B D p r01 r10 r02 r20 r12 r21 s0 s1 s2 t0 t1 t2 n0 n1 n2 : Nat} (h01 : r01 + r10 = 2 * A) (h02 : r02 + r20 = 2 * B) (h12 : r12 + r21 = 2 * D) (F0 : s0 + 2 * p = t0 + r01 + r02) (F1 : s1 + 2 * p = t1 + r10 + r12) (F2 : s2 + 2 * p = t2 + r20 + r21) (zs0 : s0 = 0) (zs1 : s1 = 0) (zs2 : s2 = 0) (e0 : 0 < t0 ∨ (n1 < n0 ∧ 0 < r01) ∨ (n2 < n0 ∧ 0 < r02)) (e1 : 0 < t1 ∨ (n0 < n1 ∧ 0 < r10) ∨ (n2 < n1 ∧ 0 < r12)) (e2 : 0 < t2 ∨ (n0 < n2 ∧ 0 < r20) ∨ (n1 < n2 ∧ 0 < r21)) : dn_max A B D p 0 := by
  refine ⟨by decide, dn_lt8 ?_ ?_ ?_ ?_ ?_ ?_ ?_ ?_⟩
  all_goals simp only [dn_V0, dn_V1, dn_V2, dn_V3, dn_V4, dn_V5, dn_V6, dn_V7]
  · exact ⟨by omega, fun _ => by decide⟩
  · exact ⟨by omega, fun h => absurd h (by omega)⟩
  · exact ⟨by omega, fun h => absurd h (by omega)⟩
  · exact ⟨by omega, fun h => absurd h (by omega)⟩
  · exact ⟨by omega, fun h => absurd h (by omega)⟩
  · exact ⟨by omega, fun h => absurd h (by omega)⟩
  · exact ⟨by omega, fun h => absurd h (by omega)⟩
  · exact ⟨by omega, fun h => absurd h (by omega)⟩
/-- no way from the source is left, v is what reaches the sink: its complement is worth most -/
theorem dn_mincut {A B D p : Nat} {r : Nat → Nat} {f v : Nat → Bool} {ρ par : Nat → Nat}
    (hs : ∀ a b, a < 12 → b < 12 → r (a * 12 + b) + r (b * 12 + a) = dn_c (dn_pr A B D) p (a * 12 + b) + dn_c (dn_pr A B D) p (b * 12 + a))
    (ho : ∀ w, w < 10 → dn_out r w 12 = dn_out (dn_c (dn_pr A B D) p) w 12)
    (f10 : f 10 = true) (f11 : f 11 = false) (hf : ∀ z, z < 12 → f z = true → ∀ y, y < 12 → dn_nd y → 0 < r (z * 12 + y) → f y = true)
    (v11 : v 11 = true) (hv : ∀ z, z < 12 → v z = true → ∀ y, y < 12 → dn_nd y → 0 < r (y * 12 + z) → v y = true)
    (hp : ∀ z, z < 12 → v z = true → dn_nd z ∧ (z = 11 ∨ (par z < 12 ∧ v (par z) = true ∧ ρ (par z) < ρ z ∧ 0 < r (z * 12 + par z)))) :
    dn_max A B D p (dn_mk v 3) := by
  have dis : ∀ n z, ρ z < n → z < 12 → v z = true → f z = false := by
    intro n
    induction n with
    | zero => intro z h; omega
    | succ n ih =>
      intro z hn hz vz
      obtain ⟨nz, h | ⟨h1, h2, h3, h4⟩⟩ := hp z hz vz
      · rw [h]; exact f11
      · by_cases g : f z = true
        · have t := hf z hz g (par z) h1 (hp (par z) h1 h2).1 h4
          rw [ih (par z) (by omega) h1 h2] at t
          exact absurd t (by decide)
        · exact dn_bf g
  have v10 : v 10 = false := by
    by_cases g : v 10 = true
    · have t := dis _ 10 (Nat.lt_succ_self _) (by omega) g
      rw [f10] at t
      exact absurd t (by decide)
    · exact dn_bf g
  have k0_0 : r 0 + r 0 = 0 + 0 := hs 0 0 (by omega) (by omega)
  have k0_1 : r 1 + r 12 = A + A := hs 0 1 (by omega) (by omega)
  have k0_2 : r 2 + r 24 = B + B := hs 0 2 (by omega) (by omega)
  have k0_3 : r 3 + r 36 = 0 + 0 := hs 0 3 (by omega) (by omega)
  have k0_4 : r 4 + r 48 = 0 + 0 := hs 0 4 (by omega) (by omega)
  have k0_5 : r 5 + r 60 = 0 + 0 := hs 0 5 (by omega) (by omega)
  have k0_6 : r 6 + r 72 = 0 + 0 := hs 0 6 (by omega) (by omega)
  have k0_7 : r 7 + r 84 = 0 + 0 := hs 0 7 (by omega) (by omega)
  have k0_8 : r 8 + r 96 = 0 + 0 := hs 0 8 (by omega) (by omega)
  have k0_9 : r 9 + r 108 = 0 + 0 := hs 0 9 (by omega) (by omega)
  have k0_10 : r 10 + r 120 = 0 + ((0 + 0 + A + B) - 2 * p) := hs 0 10 (by omega) (by omega)
  have k0_11 : r 11 + r 132 = (2 * p - (0 + 0 + A + B)) + 0 := hs 0 11 (by omega) (by omega)
  have k1_1 : r 13 + r 13 = 0 + 0 := hs 1 1 (by omega) (by omega)
  have k1_2 : r 14 + r 25 = D + D := hs 1 2 (by omega) (by omega)
  have k1_3 : r 15 + r 37 = 0 + 0 := hs 1 3 (by omega) (by omega)
  have k1_4 : r 16 + r 49 = 0 + 0 := hs 1 4 (by omega) (by omega)
  have k1_5 : r 17 + r 61 = 0 + 0 := hs 1 5 (by omega) (by omega)
  have k1_6 : r 18 + r 73 = 0 + 0 := hs 1 6 (by omega) (by omega)
  have k1_7 : r 19 + r 85 = 0 + 0 := hs 1 7 (by omega) (by omega)
  have k1_8 : r 20 + r 97 = 0 + 0 := hs 1 8 (by omega) (by omega)
  have k1_9 : r 21 + r 109 = 0 + 0 := hs 1 9 (by omega) (by omega)
  have k1_10 : r 22 + r 121 = 0 + ((0 + A + 0 + D) - 2 * p) := hs 1 10 (by omega) (by omega)
  have k1_11 : r 23 + r 133 = (2 * p - (0 + A + 0 + D)) + 0 := hs 1 11 (by omega) (by omega)
  have k2_2 : r 26 + r 26 = 0 + 0 := hs 2 2 (by omega) (by omega)
  have k2_3 : r 27 + r 38 = 0 + 0 := hs 2 3 (by omega) (by omega)
  have k2_4 : r 28 + r 50 = 0 + 0 := hs 2 4 (by omega) (by omega)
  have k2_5 : r 29 + r 62 = 0 + 0 := hs 2 5 (by omega) (by omega)
  have k2_6 : r 30 + r 74 = 0 + 0 := hs 2 6 (by omega) (by omega)
  have k2_7 : r 31 + r 86 = 0 + 0 := hs 2 7 (by omega) (by omega)
  have k2_8 : r 32 + r 98 = 0 + 0 := hs 2 8 (by omega) (by omega)
  have k2_9 : r 33 + r 110 = 0 + 0 := hs 2 9 (by omega) (by omega)
  have k2_10 : r 34 + r 122 = 0 + ((0 + B + D + 0) - 2 * p) := hs 2 10 (by omega) (by omega)
  have k2_11 : r 35 + r 134 = (2 * p - (0 + B + D + 0)) + 0 := hs 2 11 (by omega) (by omega)
  have o0 : 0 + r 0 + r 1 + r 2 + r 3 + r 4 + r 5 + r 6 + r 7 + r 8 + r 9 + r 10 + r 11 = 0 + 0 + A + B + 0 + 0 + 0 + 0 + 0 + 0 + 0 + 0 + (2 * p - (0 + 0 + A + B)) := ho 0 (by omega)
  have o1 : 0 + r 12 + r 13 + r 14 + r 15 + r 16 + r 17 + r 18 + r 19 + r 20 + r 21 + r 22 + r 23 = 0 + A + 0 + D + 0 + 0 + 0 + 0 + 0 + 0 + 0 + 0 + (2 * p - (0 + A + 0 + D)) := ho 1 (by omega)
  have o2 : 0 + r 24 + r 25 + r 26 + r 27 + r 28 + r 29 + r 30 + r 31 + r 32 + r 33 + r 34 + r 35 = 0 + B + D + 0 + 0 + 0 + 0 + 0 + 0 + 0 + 0 + 0 + (2 * p - (0 + B + D + 0)) := ho 2 (by omega)
  have zt : ∀ u, u < 3 → v u = false → r (u * 12 + 11) = 0 := by
    intro u hu g
    rcases Nat.eq_zero_or_pos (r (u * 12 + 11)) with h | h
    · exact h
    · have t := hv 11 (by omega) v11 u (by omega) (Or.inl hu) h
      rw [g] at t
      exact absurd t (by decide)
  have zs : ∀ u, u < 3 → v u = true → r (120 + u) = 0 := by
    intro u hu g
    rcases Nat.eq_zero_or_pos (r (120 + u)) with h | h
    · exact h
    · have t := hv u (by omega) g 10 (by omega) (Or.inr (by omega)) h
      rw [v10] at t
      exact absurd t (by decide)
  have zz : ∀ u w, u < 3 → w < 3 → v u = false → v w = true → r (u * 12 + w) = 0 := by
    intro u w hu hw gu gw
    rcases Nat.eq_zero_or_pos (r (u * 12 + w)) with h | h
    · exact h
    · have t := hv w (by omega) gw u (by omega) (Or.inl hu) h
      rw [gu] at t
      exact absurd t (by decide)
  have ee : ∀ u, u < 3 → v u = true → 0 < r (u * 12 + 11) ∨ ∃ w, w < 3 ∧ w ≠ u ∧ v w = true ∧ ρ w < ρ u ∧ 0 < r (u * 12 + w) := by
    intro u hu g
    obtain ⟨_, h | ⟨h1, h2, h3, h4⟩⟩ := hp u (by omega) g
    · omega
    · by_cases g1 : par u = 11
      · rw [g1] at h4
        exact Or.inl h4
      · by_cases g2 : par u = 10
        · rw [g2, v10] at h2
          exact absurd h2 (by decide)
        · have g3 := (hp (par u) h1 h2).1
          unfold dn_nd at g3
          exact Or.inr ⟨par u, by omega, fun t => by rw [t] at h3; omega, h2, h3, h4⟩
  have ee0 : v 0 = true → 0 < r 11 ∨ (v 1 = true ∧ ρ 1 < ρ 0 ∧ 0 < r 1) ∨ (v 2 = true ∧ ρ 2 < ρ 0 ∧ 0 < r 2) := by
    intro g
    rcases ee 0 (by omega) g with h | ⟨w, w1, w2, w3, w4, w5⟩
    · exact Or.inl h
    · have hw : w = 1 ∨ w = 2 := by omega
      rcases hw with hw | hw
      · subst hw; exact Or.inr (Or.inl ⟨w3, w4, w5⟩)
      · subst hw; exact Or.inr (Or.inr ⟨w3, w4, w5⟩)
  have ee1 : v 1 = true → 0 < r 23 ∨ (v 0 = true ∧ ρ 0 < ρ 1 ∧ 0 < r 12) ∨ (v 2 = true ∧ ρ 2 < ρ 1 ∧ 0 < r 14) := by
    intro g
    rcases ee 1 (by omega) g with h | ⟨w, w1, w2, w3, w4, w5⟩
    · exact Or.inl h
    · have hw : w = 0 ∨ w = 2 := by omega
      rcases hw with hw | hw
      · subst hw; exact Or.inr (Or.inl ⟨w3, w4, w5⟩)
      · subst hw; exact Or.inr (Or.inr ⟨w3, w4, w5⟩)
  have ee2 : v 2 = true → 0 < r 35 ∨ (v 0 = true ∧ ρ 0 < ρ 2 ∧ 0 < r 24) ∨ (v 1 = true ∧ ρ 1 < ρ 2 ∧ 0 < r 25) := by
    intro g
    rcases ee 2 (by omega) g with h | ⟨w, w1, w2, w3, w4, w5⟩
    · exact Or.inl h
    · have hw : w = 0 ∨ w = 1 := by omega
      rcases hw with hw | hw
      · subst hw; exact Or.inr (Or.inl ⟨w3, w4, w5⟩)
      · subst hw; exact Or.inr (Or.inr ⟨w3, w4, w5⟩)
  have h01 : r 1 + r 12 = 2 * A := by omega
  have h02 : r 2 + r 24 = 2 * B := by omega
  have h12 : r 14 + r 25 = 2 * D := by omega
  have F0 : r 120 + 2 * p = r 11 + r 1 + r 2 := by omega
  have F1 : r 121 + 2 * p = r 23 + r 12 + r 14 := by omega
  have F2 : r 122 + 2 * p = r 35 + r 24 + r 25 := by omega
  clear k0_0 k0_1 k0_2 k0_3 k0_4 k0_5 k0_6 k0_7 k0_8 k0_9 k0_10 k0_11 k1_1 k1_2 k1_3 k1_4 k1_5 k1_6 k1_7 k1_8 k1_9 k1_10 k1_11 k2_2 k2_3 k2_4 k2_5 k2_6 k2_7 k2_8 k2_9 k2_10 k2_11 o0 o1 o2
  show dn_max A B D p (0 + (if v 0 = true then 0 else 1) + (if v 1 = true then 0 else 2) + (if v 2 = true then 0 else 4))
  by_cases g0 : v 0 = true
  · by_cases g1 : v 1 = true
    · by_cases g2 : v 2 = true
      · have q0 : 0 < r 11 ∨ (ρ 1 < ρ 0 ∧ 0 < r 1) ∨ (ρ 2 < ρ 0 ∧ 0 < r 2) := by
          rcases ee0 g0 with h | h | h
          · exact Or.inl (h)
          · exact Or.inr (Or.inl (h.2))
          · exact Or.inr (Or.inr (h.2))
        have q1 : 0 < r 23 ∨ (ρ 0 < ρ 1 ∧ 0 < r 12) ∨ (ρ 2 < ρ 1 ∧ 0 < r 14) := by
          rcases ee1 g1 with h | h | h
          · exact Or.inl (h)
          · exact Or.inr (Or.inl (h.2))
          · exact Or.inr (Or.inr (h.2))
        have q2 : 0 < r 35 ∨ (ρ 0 < ρ 2 ∧ 0 < r 24) ∨ (ρ 1 < ρ 2 ∧ 0 < r 25) := by
          rcases ee2 g2 with h | h | h
          · exact Or.inl (h)
          · exact Or.inr (Or.inl (h.2))
          · exact Or.inr (Or.inr (h.2))
        rw [g0, g1, g2]
        exact dn_mc7 (n0 := ρ 0) (n1 := ρ 1) (n2 := ρ 2) h01 h02 h12 F0 F1 F2 (zs 0 (by omega) g0) (zs 1 (by omega) g1) (zs 2 (by omega) g2) q0 q1 q2
      · replace g2 := dn_bf g2
        have q0 : 0 < r 11 ∨ (ρ 1 < ρ 0 ∧ 0 < r 1) := by
          rcases ee0 g0 with h | h | h
          · exact Or.inl (h)
          · exact Or.inr (h.2)
          · have t := h.1; rw [g2] at t; exact absurd t (by decide)
        have q1 : 0 < r 23 ∨ (ρ 0 < ρ 1 ∧ 0 < r 12) := by
          rcases ee1 g1 with h | h | h
          · exact Or.inl (h)
          · exact Or.inr (h.2)
          · have t := h.1; rw [g2] at t; exact absurd t (by decide)
        rw [g0, g1, g2]
        exact dn_mc3 (n0 := ρ 0) (n1 := ρ 1) (n2 := ρ 2) h01 h02 h12 F0 F1 F2 (zs 0 (by omega) g0) (zs 1 (by omega) g1) (zt 2 (by omega) g2) (zz 2 0 (by omega) (by omega) g2 g0) (zz 2 1 (by omega) (by omega) g2 g1) q0 q1
    · replace g1 := dn_bf g1
      by_cases g2 : v 2 = true
      · have q0 : 0 < r 11 ∨ (ρ 2 < ρ 0 ∧ 0 < r 2) := by
          rcases ee0 g0 with h | h | h
          · exact Or.inl (h)
          · have t := h.1; rw [g1] at t; exact absurd t (by decide)
          · exact Or.inr (h.2)
        have q2 : 0 < r 35 ∨ (ρ 0 < ρ 2 ∧ 0 < r 24) := by
          rcases ee2 g2 with h | h | h
          · exact Or.inl (h)
          · exact Or.inr (h.2)
          · have t := h.1; rw [g1] at t; exact absurd t (by decide)
        rw [g0, g1, g2]
        exact dn_mc5 (n0 := ρ 0) (n1 := ρ 1) (n2 := ρ 2) h01 h02 h12 F0 F1 F2 (zs 0 (by omega) g0) (zt 1 (by omega) g1) (zs 2 (by omega) g2) (zz 1 0 (by omega) (by omega) g1 g0) (zz 1 2 (by omega) (by omega) g1 g2) q0 q2
      · replace g2 := dn_bf g2
        have q0 : 0 < r 11 := by
          rcases ee0 g0 with h | h | h
          · exact h
          · have t := h.1; rw [g1] at t; exact absurd t (by decide)
          · have t := h.1; rw [g2] at t; exact absurd t (by decide)
        rw [g0, g1, g2]
        exact dn_mc1 (n0 := ρ 0) (n1 := ρ 1) (n2 := ρ 2) h01 h02 h12 F0 F1 F2 (zs 0 (by omega) g0) (zt 1 (by omega) g1) (zt 2 (by omega) g2) (zz 1 0 (by omega) (by omega) g1 g0) (zz 2 0 (by omega) (by omega) g2 g0) q0
  · replace g0 := dn_bf g0
    by_cases g1 : v 1 = true
    · by_cases g2 : v 2 = true
      · have q1 : 0 < r 23 ∨ (ρ 2 < ρ 1 ∧ 0 < r 14) := by
          rcases ee1 g1 with h | h | h
          · exact Or.inl (h)
          · have t := h.1; rw [g0] at t; exact absurd t (by decide)
          · exact Or.inr (h.2)
        have q2 : 0 < r 35 ∨ (ρ 1 < ρ 2 ∧ 0 < r 25) := by
          rcases ee2 g2 with h | h | h
          · exact Or.inl (h)
          · have t := h.1; rw [g0] at t; exact absurd t (by decide)
          · exact Or.inr (h.2)
        rw [g0, g1, g2]
        exact dn_mc6 (n0 := ρ 0) (n1 := ρ 1) (n2 := ρ 2) h01 h02 h12 F0 F1 F2 (zt 0 (by omega) g0) (zs 1 (by omega) g1) (zs 2 (by omega) g2) (zz 0 1 (by omega) (by omega) g0 g1) (zz 0 2 (by omega) (by omega) g0 g2) q1 q2
      · replace g2 := dn_bf g2
        have q1 : 0 < r 23 := by
          rcases ee1 g1 with h | h | h
          · exact h
          · have t := h.1; rw [g0] at t; exact absurd t (by decide)
          · have t := h.1; rw [g2] at t; exact absurd t (by decide)
        rw [g0, g1, g2]
        exact dn_mc2 (n0 := ρ 0) (n1 := ρ 1) (n2 := ρ 2) h01 h02 h12 F0 F1 F2 (zt 0 (by omega) g0) (zs 1 (by omega) g1) (zt 2 (by omega) g2) (zz 0 1 (by omega) (by omega) g0 g1) (zz 2 1 (by omega) (by omega) g2 g1) q1
    · replace g1 := dn_bf g1
      by_cases g2 : v 2 = true
      · have q2 : 0 < r 35 := by
          rcases ee2 g2 with h | h | h
          · exact h
          · have t := h.1; rw [g0] at t; exact absurd t (by decide)
          · have t := h.1; rw [g1] at t; exact absurd t (by decide)
        rw [g0, g1, g2]
        exact dn_mc4 (n0 := ρ 0) (n1 := ρ 1) (n2 := ρ 2) h01 h02 h12 F0 F1 F2 (zt 0 (by omega) g0) (zt 1 (by omega) g1) (zs 2 (by omega) g2) (zz 0 2 (by omega) (by omega) g0 g2) (zz 1 2 (by omega) (by omega) g1 g2) q2
      · replace g2 := dn_bf g2
        rw [g0, g1, g2]
        exact dn_mc0 (n0 := ρ 0) (n1 := ρ 1) (n2 := ρ 2) h01 h02 h12 F0 F1 F2 (zt 0 (by omega) g0) (zt 1 (by omega) g1) (zt 2 (by omega) g2)
end
section
/-! ===== cut ===== -/
/-- an edge with room, backward -/
def dn_Eb (a4 : Nat → Int32) (x y : Nat) : Prop := ¬ a4 (y * 12 + x) ≤ 0
def dn_H (a4 : Nat → Int32) (v : Nat → Bool) (ρ par : Nat → Nat) (a6 a7 : Nat → Int32) (e : Nat) : Prop :=
  dn_B (dn_Eb a4) 11 v ρ par a6 e ∧ ∀ z, z < 12 → (v z = true → a7 z = 1) ∧ (v z = false → a7 z = 0)
theorem dn_orS : ∀ k, k < 3 → ∀ s, s < 8 → s < 2 ^ k → nI s ||| ((1 : Int32) <<< (nI k &&& 31)) = nI (s + 2 ^ k) := by decide +kernel
theorem dn_mk_lt (v : Nat → Bool) : ∀ k, dn_mk v k < 2 ^ k
  | 0 => Nat.zero_lt_one
  | k + 1 => by
    have h := dn_mk_lt v k
    show dn_mk v k + (if v k = true then 0 else 2 ^ k) < 2 ^ (k + 1)
    rw [Nat.pow_succ]
    split <;> omega
section
variable {post : St2 → Prop} {cs bt bb bs : Int32} {a1 a2 a3 a4 a5 : Nat → Int32}
theorem dn_c198 {a6 a7 : Nat → Int32} {v : Nat → Bool} (h7 : ∀ z, z < 12 → (v z = true → a7 z = 1) ∧ (v z = false → a7 z = 0)) (H : post (3, nI (dn_mk v 3), bt, bb, bs, a1, a2, a3, a4, a5, a6, a7)) :
    ∀ (c k : Nat), k + c = 3 → wX_cut_198 post 3 bt bb bs a1 a2 a3 a4 a5 a6 a7 (c + 1) (nI k) (nI (dn_mk v k))
  | 0, k, hk => by
    have e3 : k = 3 := by omega
    subst e3
    exact br_t (by decide) H
  | c + 1, k, hk => by
    have ih := dn_c198 h7 H c (k + 1) (by omega)
    refine pk_le 3 k (fun z => absurd z (by omega)) (fun _ => ⟨pk_in k 12 (by omega), ?_⟩)
    rw [nI_clamp (show k < 2 ^ 31 by omega)]
    by_cases g : v k = true
    · rw [(h7 k (by omega)).1 g]
      refine br_f (by decide) (nm_r (nI_1 k) ?_)
      have e : dn_mk v (k + 1) = dn_mk v k := by
        show dn_mk v k + (if v k = true then 0 else 2 ^ k) = dn_mk v k
        rw [if_pos g]
        rfl
      rw [e] at ih
      exact ih
    · rw [(h7 k (by omega)).2 (dn_bf g)]
      have hl := dn_mk_lt v k
      have h8 : (2 : Nat) ^ k ≤ 4 := Nat.pow_le_pow_right (by decide) (show k ≤ 2 by omega)
      refine br_t rfl (nm_r (dn_orS k (by omega) (dn_mk v k) (by omega) hl) (nm_r (nI_1 k) ?_))
      have e : dn_mk v (k + 1) = dn_mk v k + 2 ^ k := by
        show dn_mk v k + (if v k = true then 0 else 2 ^ k) = dn_mk v k + 2 ^ k
        rw [if_neg g]
      rw [e] at ih
      exact ih
theorem dn_Hadd {v : Nat → Bool} {ρ par : Nat → Nat} {a6 a7 : Nat → Int32} {e x y : Nat} (h : dn_H a4 v ρ par a6 a7 e) (hx : x < 12) (vx : v x = true) (hy : y < 12) (ny : dn_nd y) (vy : v y = false) (hE : dn_Eb a4 x y) :
    e < 12 ∧ dn_H a4 (dn_set v y true) (dn_set ρ y e) (dn_set par y x) (upd a6 e (nI y)) (upd a7 y 1) (e + 1) := by
  obtain ⟨hB, h7⟩ := h
  obtain ⟨he, hB'⟩ := dn_Badd hB hx vx hy ny vy hE
  refine ⟨he, hB', ?_⟩
  intro z hz
  by_cases g : z = y
  · subst g
    rw [dn_ss, pk_us]
    exact ⟨fun _ => rfl, fun t => absurd t (by decide)⟩
  · rw [dn_sn g, pk_un g]
    exact h7 z hz
theorem dn_c116 {J : Int32 → Int32 → (Nat → Int32) → (Nat → Int32) → (Nat → Int32) → (Nat → Int32) → (Nat → Int32) → (Nat → Int32) → (Nat → Int32) → Prop} {i x : Nat} (hx : x < 12)
    (H : ∀ (e : Nat) (v : Nat → Bool) (ρ par : Nat → Nat) (a6 a7 : Nat → Int32), dn_H a4 v ρ par a6 a7 e → dn_C (dn_Eb a4) v ρ (i + 1) → i + 1 ≤ e → J (nI e) (nI (i + 1)) a1 a2 a3 a4 a5 a6 a7) :
    ∀ (c k e : Nat) (v : Nat → Bool) (ρ par : Nat → Nat) (a6 a7 : Nat → Int32), k + c = 12 → dn_H a4 v ρ par a6 a7 e → v x = true → ρ x = i → dn_C (dn_Eb a4) v ρ i → dn_D (dn_Eb a4) v x k →
      wX_cut_116 post J (nI i) (nI x) 3 cs bt bb bs (c + 1) (nI e) (nI k) a1 a2 a3 a4 a5 a6 a7
  | 0, k, e, v, ρ, par, a6, a7, hk, hF, vx, rx, hC, hD => by
    have e12 : k = 12 := by omega
    subst e12
    have hr := (hF.1.2.2.2.1 x hx vx).2.1
    exact br_t (by decide) (nm_r (nI_1 i) (H e v ρ par a6 a7 hF (dn_Cnext hF.1 hx vx rx hC hD) (by omega)))
  | c + 1, k, e, v, ρ, par, a6, a7, hk, hF, vx, rx, hC, hD => by
    have hk2 : k < 12 := by omega
    have hr := (hF.1.2.2.2.1 x hx vx).2.1
    have skip : (dn_nd k → dn_Eb a4 x k → v k = true) → wX_cut_116 post J (nI i) (nI x) 3 cs bt bb bs (c + 1) (nI e) (nI (k + 1)) a1 a2 a3 a4 a5 a6 a7 :=
      fun g => dn_c116 hx H c (k + 1) e v ρ par a6 a7 (by omega) hF vx rx hC (dn_Dadd hD g)
    refine br_f (nI_ge (b := 12) hk2 (by decide)) (dn_isN k hk2 (fun nk => ?_) (fun nk => ?_))
    · refine br_f (by decide) ⟨pk_in k 12 hk2, ?_⟩
      rw [nI_clamp (show k < 2 ^ 31 by omega), dn_ixc hk2 hx]
      by_cases vk : v k = true
      · refine br_f ?_ (nm_r (nI_1 k) (skip (fun _ _ => vk)))
        rw [(hF.2 k hk2).1 vk]; decide
      · have vk' := dn_bf vk
        refine br_t ((hF.2 k hk2).2 vk') ⟨pk_in (k * 12 + x) 144 (by omega) (dn_ix k x), br_c (fun g => nm_r (nI_1 k) (skip (fun _ hE => absurd g hE))) (fun g => ?_)⟩
        obtain ⟨he, hF'⟩ := dn_Hadd hF hx vx hk2 nk vk' g
        refine ⟨pk_in k 12 hk2, nm_e ⟨pk_in e 12 he, nm_e (nm_r (nI_1 e) (nm_r (nI_1 k) ?_))⟩⟩
        rw [nI_clamp (show e < 2 ^ 31 by omega)]
        have xk : x ≠ k := fun g => by rw [g, vk'] at vx; exact absurd vx (by decide)
        exact dn_c116 hx H c (k + 1) (e + 1) _ _ _ _ _ (by omega) hF' (dn_mono vx) (by rw [dn_sn xk]; exact rx) (dn_Cset hC (by omega)) (dn_Dset hD)
    · exact br_t rfl (nm_r (nI_1 k) (skip (fun t => absurd t nk)))
theorem dn_c90 (H : ∀ (e : Nat) (v : Nat → Bool) (ρ par : Nat → Nat) (a6 a7 : Nat → Int32), dn_H a4 v ρ par a6 a7 e → dn_Cl (dn_Eb a4) v → post (3, nI (dn_mk v 3), bt, bb, bs, a1, a2, a3, a4, a5, a6, a7)) :
    ∀ (c i e : Nat) (v : Nat → Bool) (ρ par : Nat → Nat) (a6 a7 : Nat → Int32), i + c = 12 → i ≤ e → dn_H a4 v ρ par a6 a7 e → dn_C (dn_Eb a4) v ρ i →
      wX_cut_90 post 3 cs bt bb bs (c + 1) (nI e) (nI i) a1 a2 a3 a4 a5 a6 a7
  | 0, i, e, v, ρ, par, a6, a7, hi, he, hF, hC => by
    have h12 := dn_Ble hF.1
    have ei : i = e := by omega
    subst ei
    exact pk_le i i (fun _ => ⟨4, dn_c198 hF.2 (H i v ρ par a6 a7 hF (dn_Clast hF.1 hC)) 3 0 rfl⟩) (fun z => absurd z (by omega))
  | c + 1, i, e, v, ρ, par, a6, a7, hi, he, hF, hC => by
    have h12 := dn_Ble hF.1
    refine pk_le e i (fun z => ?_) (fun z => pk_le 12 i (fun z2 => absurd z2 (by omega)) (fun z2 => ⟨pk_in i 12 z2, ?_⟩))
    · have ei : i = e := by omega
      subst ei
      exact ⟨4, dn_c198 hF.2 (H i v ρ par a6 a7 hF (dn_Clast hF.1 hC)) 3 0 rfl⟩
    · obtain ⟨x, hx, vx, rx⟩ := hF.1.2.2.2.2 i z
      have qx := (hF.1.2.2.2.1 x hx vx).2.2.1
      rw [rx] at qx
      rw [nI_clamp (show i < 2 ^ 31 by omega)]
      refine nm_r qx ⟨13, ?_⟩
      exact dn_c116 hx (fun e' v' ρ' par' a6' a7' hF' hC' he' => dn_c90 H c (i + 1) e' v' ρ' par' a6' a7' (by omega) he' hF' hC') 12 0 e v ρ par a6 a7 (by omega) hF vx rx hC (fun y hy => absurd hy (by omega))
theorem dn_c44 {a6 : Nat → Int32} (H : ∀ a7 : Nat → Int32, (∀ j, j < 12 → a7 j = if j = 11 then 1 else 0) → ∃ fu, wX_cut_90 post 3 cs bt bb bs fu 1 0 a1 a2 a3 a4 a5 (upd a6 0 11) a7) :
    ∀ (c i : Nat) (a7 : Nat → Int32), i + c = 12 → (∀ j, j < i → a7 j = if j = 11 then 1 else 0) → wX_cut_44 post 3 cs bt bb bs (c + 1) (nI i) a1 a2 a3 a4 a5 a6 a7
  | 0, i, a7, hi, h => by
    have e12 : i = 12 := by omega
    subst e12
    exact br_t (by decide) (nm_e (H a7 h))
  | c + 1, i, a7, hi, h => by
    refine br_f (nI_ge (b := 12) (by omega) (by decide)) ?_
    rw [nI_clamp (show i < 2 ^ 31 by omega)]
    refine pk_eq i 11 (fun z => ⟨pk_in i 12 (by omega), nm_e (nm_r (nI_1 i) (dn_c44 H c (i + 1) _ (by omega) ?_))⟩) (fun z => ⟨pk_in i 12 (by omega), nm_e (nm_r (nI_1 i) (dn_c44 H c (i + 1) _ (by omega) ?_))⟩)
    · intro j hj
      by_cases g : j = i
      · rw [g, pk_us, if_pos z]
      · rw [pk_un g]; exact h j (by omega)
    · intro j hj
      by_cases g : j = i
      · rw [g, pk_us, if_neg z]
      · rw [pk_un g]; exact h j (by omega)
theorem dn_c44all {a6 a7 : Nat → Int32} (H : ∀ (e : Nat) (v : Nat → Bool) (ρ par : Nat → Nat) (a6 a7 : Nat → Int32), dn_H a4 v ρ par a6 a7 e → dn_Cl (dn_Eb a4) v → post (3, nI (dn_mk v 3), bt, bb, bs, a1, a2, a3, a4, a5, a6, a7)) :
    ∃ fu, wX_cut_44 post 3 cs bt bb bs fu 0 a1 a2 a3 a4 a5 a6 a7 := by
  refine ⟨13, dn_c44 (fun b7 h7 => ⟨13, ?_⟩) 12 0 a7 (by omega) (fun j hj => absurd hj (by omega))⟩
  refine dn_c90 H 12 0 1 (dn_set (fun _ => false) 11 true) (fun _ => 0) (fun _ => 11) _ _ (by omega) (by omega) ⟨dn_B0 (by omega) (Or.inr (by omega)) a6, ?_⟩ (fun z _ _ h => absurd h (by omega))
  intro z hz
  by_cases g : z = 11
  · subst g
    rw [dn_ss, h7 11 (by omega)]
    exact ⟨fun _ => rfl, fun t => absurd t (by decide)⟩
  · rw [dn_sn g, h7 z hz, if_neg g]
    exact ⟨fun t => absurd t (by decide), fun _ => rfl⟩
end
theorem dn_Rpos {r : Nat → Nat} {a4 : Nat → Int32} (hR : dn_R r a4) {j : Nat} (hj : j < 144) : ¬ a4 j ≤ 0 ↔ 0 < r j := by
  obtain ⟨h1, h2⟩ := hR j hj
  rw [h1, ← nI_0, nI_leI (by omega) (by omega)]
  omega
/-- a network of the run: opposite edges' sums and the vertices' rows are those of the start -/
def dn_N (c r : Nat → Nat) : Prop :=
  (∀ a b, a < 12 → b < 12 → r (a * 12 + b) + r (b * 12 + a) = c (a * 12 + b) + c (b * 12 + a)) ∧ (∀ w, w < 10 → dn_out r w 12 = dn_out c w 12)
section
variable {post : St2 → Prop} {cs bt bb bs : Int32} {a1 a2 a3 a7 : Nat → Int32} {A B D p : Nat}
theorem dn_cend {a4 a5 a6 : Nat → Int32} {r : Nat → Nat} {f : Nat → Bool} (hR : dn_R r a4) (hN : dn_N (dn_c (dn_pr A B D) p) r) (f10 : f 10 = true) (f11 : f 11 = false) (hf : dn_Cl (dn_E a4) f)
    (H : ∀ (S : Nat) (a4 a5 a6 a7 : Nat → Int32), dn_max A B D p S → post (3, nI S, bt, bb, bs, a1, a2, a3, a4, a5, a6, a7)) :
    ∃ fu, wX_cut_44 post 3 cs bt bb bs fu 0 a1 a2 a3 a4 a5 a6 a7 := by
  refine dn_c44all (fun e v ρ par b6 b7 hH hC => H _ _ _ _ _ ?_)
  refine dn_mincut (ρ := ρ) (par := par) hN.1 hN.2 f10 f11 (fun z hz fz y hy ny h => hf z hz fz y hy ny ((dn_Rpos hR (by omega)).mpr h)) hH.1.2.1 (fun z hz vz y hy ny h => hC z hz vz y hy ny ((dn_Rpos hR (by omega)).mpr h)) ?_
  intro z hz vz
  obtain ⟨k1, k2, k3, k4⟩ := hH.1.2.2.2.1 z hz vz
  refine ⟨k1, ?_⟩
  rcases k4 with k4 | ⟨k5, k6, k7, k8⟩
  · exact Or.inl k4
  · exact Or.inr ⟨k5, k6, k7, (dn_Rpos hR (by omega)).mp k8⟩
theorem dn_c14 (hc : ∀ a b, a < 12 → b < 12 → dn_c (dn_pr A B D) p (a * 12 + b) + dn_c (dn_pr A B D) p (b * 12 + a) < 1000000)
    (H : ∀ (S : Nat) (a4 a5 a6 a7 : Nat → Int32), dn_max A B D p S → post (3, nI S, bt, bb, bs, a1, a2, a3, a4, a5, a6, a7)) :
    ∀ (k i e : Nat) (r : Nat → Nat) (v : Nat → Bool) (ρ par : Nat → Nat) (a4 a5 a6 : Nat → Int32), i + k < 4000 → dn_out r 10 12 ≤ k → dn_R r a4 → dn_N (dn_c (dn_pr A B D) p) r → dn_F a4 v ρ par a5 a6 e → v 11 = true →
      wX_cut_14 post (k + 1) 1 (nI i) 3 cs bt bb bs a1 a2 a3 a4 a5 a6 a7 := by
  intro k
  induction k with
  | zero =>
    intro i e r v ρ par a4 a5 a6 hi hk hR hN hF hv
    refine pk_le 4000 i (fun z => absurd z (by omega)) (fun _ => br_f (by decide) (dn_sendAlong hR (fun a b ha hb => by rw [hN.1 a b ha hb]; exact hc a b ha hb) hF hv (fun m r' a4' hm hR' hs => ?_)))
    have h := hs.2.2
    omega
  | succ k ih =>
    intro i e r v ρ par a4 a5 a6 hi hk hR hN hF hv
    refine pk_le 4000 i (fun z => absurd z (by omega)) (fun _ => br_f (by decide) (dn_sendAlong hR (fun a b ha hb => by rw [hN.1 a b ha hb]; exact hc a b ha hb) hF hv (fun m r' a4' hm hR' hs => ?_)))
    have h := hs.2.2
    have hN' : dn_N (dn_c (dn_pr A B D) p) r' := ⟨fun a b ha hb => by rw [hs.1 a b ha hb]; exact hN.1 a b ha hb, fun w hw => by rw [hs.2.1 w hw]; exact hN.2 w hw⟩
    refine dn_findWay (fun f b5 b6 f10 f11 hf => nm_r (nI_1 i) ?_) (fun e' v' ρ' par' b5 b6 hF' hv' => nm_r (nI_1 i) ?_)
    · exact pk_le 4000 (i + 1) (fun _ => dn_cend hR' hN' f10 f11 hf H) (fun _ => br_t rfl (dn_cend hR' hN' f10 f11 hf H))
    · exact ih (i + 1) e' r' v' ρ' par' a4' b5 b6 (by omega) (by omega) hR' hN' hF' hv'
end
theorem dn_cbound {A B D p : Nat} (hA : A ≤ 1000) (hB : B ≤ 1000) (hD : D ≤ 1000) (hp : p ≤ 2000) (j : Nat) : dn_c (dn_pr A B D) p j < 10000 := by
  have k : ∀ u w, dn_pr A B D u w ≤ 1000 := dn_pr_le hA hB hD
  have row : ∀ (C : Nat → Nat) (u : Nat), (∀ j, C j < 10000) → ∀ j, dn_row (dn_pr A B D) p u C j < 10000 := by
    intro C u hC j
    have k0 := k u 0
    have k1 := k u 1
    have k2 := k u 2
    have hj := hC j
    unfold dn_row dn_set
    repeat' split
    all_goals omega
  unfold dn_c
  exact row _ 2 (row _ 1 (row _ 0 (fun _ => by decide))) j
theorem dn_cut {post : St2 → Prop} {cs bt bb bs : Int32} {a1 a2 a3 a4 a5 a6 a7 : Nat → Int32} {a b d g p : Nat} (hG : dn_G a b d a1 a2 a3) (hA : g * a ≤ 250) (hB : g * b ≤ 250) (hD : g * d ≤ 250) (hp : p ≤ 2000)
    (H : ∀ (S : Nat) (a4 a5 a6 a7 : Nat → Int32), dn_max (g * a) (g * b) (g * d) p S → post (3, nI S, bt, bb, bs, a1, a2, a3, a4, a5, a6, a7)) :
    wpX_cut post (3, cs, bt, bb, bs, a1, a2, a3, a4, a5, a6, a7) (nI g) (nI p) := by
  have hc := dn_cbound (A := g * a) (B := g * b) (D := g * d) (p := p) (by omega) (by omega) (by omega) hp
  have ho : dn_out (dn_c (dn_pr (g * a) (g * b) (g * d)) p) 10 12 ≤ 1500 := by
    have h : dn_out (dn_c (dn_pr (g * a) (g * b) (g * d)) p) 10 12 = 0 + (0 + 0 + g * a + g * b - 2 * p) + (0 + g * a + 0 + g * d - 2 * p) + (0 + g * b + g * d + 0 - 2 * p) + 0 + 0 + 0 + 0 + 0 + 0 + 0 + 0 + 0 := rfl
    omega
  refine dn_build hG (by omega) (by omega) (by omega) hp (fun b4 h4 => ?_)
  have hN : dn_N (dn_c (dn_pr (g * a) (g * b) (g * d)) p) (dn_c (dn_pr (g * a) (g * b) (g * d)) p) := ⟨fun _ _ _ _ => rfl, fun _ _ => rfl⟩
  refine dn_findWay (fun f b5 b6 f10 f11 hf => ⟨1, ?_⟩) (fun e v ρ par b5 b6 hF hv => ⟨1501, ?_⟩)
  · exact pk_le 4000 0 (fun z => absurd z (by omega)) (fun _ => br_t rfl (dn_cend h4 hN f10 f11 hf H))
  · exact dn_c14 (fun x y _ _ => by have h1 := hc (x * 12 + y); have h2 := hc (y * 12 + x); omega) H 1500 0 e _ v ρ par b4 b5 b6 (by omega) ho h4 hN hF hv
end
section
/-! ===== weight, members, valueOf, gcd, takeDensity ===== -/
theorem dn_bit : ∀ T, T < 8 → ∀ u, u < 10 → ((nI T >>> (nI u &&& 31)) &&& 1) = nI (T / 2 ^ u % 2) := by decide +kernel
def dn_wi (q : Nat → Nat → Nat) (T u : Nat) : Nat → Nat → Nat
  | 0, _ => 0
  | c + 1, v => (if T / 2 ^ v % 2 = 1 then q u v else 0) + dn_wi q T u c (v + 1)
def dn_wo (q : Nat → Nat → Nat) (T : Nat) : Nat → Nat → Nat
  | 0, _ => 0
  | c + 1, u => (if T / 2 ^ u % 2 = 0 then 0 else dn_wi q T u (2 - u) (u + 1)) + dn_wo q T c (u + 1)
theorem dn_wo_wt (a b d : Nat) : ∀ T, T < 8 → dn_wo (dn_pr a b d) T 3 0 = dn_wt a b d T :=
  dn_lt8 (by simp [dn_wo, dn_wi, dn_pr, dn_wt]) (by simp [dn_wo, dn_wi, dn_pr, dn_wt]) (by simp [dn_wo, dn_wi, dn_pr, dn_wt]) (by simp [dn_wo, dn_wi, dn_pr, dn_wt]) (by simp [dn_wo, dn_wi, dn_pr, dn_wt]) (by simp [dn_wo, dn_wi, dn_pr, dn_wt]) (by simp [dn_wo, dn_wi, dn_pr, dn_wt]) (by simp [dn_wo, dn_wi, dn_pr, dn_wt])
def dn_mb (T : Nat) : Nat → Nat → Nat
  | 0, _ => 0
  | c + 1, v => T / 2 ^ v % 2 + dn_mb T c (v + 1)
theorem dn_mb_k : ∀ T, T < 8 → dn_mb T 10 0 = dn_k T := by decide +kernel
section
variable {post : Int32 → Prop} {cs bt bb bs : Int32} {a1 a2 a3 a4 a5 a6 a7 : Nat → Int32} {a b d : Nat}
theorem dn_w37 {J : Int32 → Int32 → Prop} {T u : Nat} (hG : dn_G a b d a1 a2 a3) (hT : T < 8) (hu : u < 3) :
    ∀ (c v s : Nat), v + c = 3 → J (nI (s + dn_wi (dn_pr a b d) T u c v)) (nI (u + 1)) → wX_weight_37 post J (nI T) (nI u) 3 cs bt bb bs a1 a2 a3 a4 a5 a6 a7 (c + 1) (nI s) (nI v)
  | 0, v, s, hv, H => by
    have e3 : v = 3 := by omega
    subst e3
    exact br_t (by decide) (nm_r (nI_1 u) H)
  | c + 1, v, s, hv, H => by
    refine pk_le 3 v (fun z => absurd z (by omega)) (fun _ => ?_)
    have e1 : (nI u * 10 + nI v).toNatClampNeg = u * 10 + v := by rw [dn_ix10, nI_clamp (by omega)]
    rw [e1, dn_bit T hT v (by omega), hG.1 u v hu (by omega), nI_add]
    have H' : J (nI (s + ((if T / 2 ^ v % 2 = 1 then dn_pr a b d u v else 0) + dn_wi (dn_pr a b d) T u c (v + 1)))) (nI (u + 1)) := H
    refine pk_eq (T / 2 ^ v % 2) 1 (fun z => ?_) (fun z => ?_)
    · rw [if_pos z, ← Nat.add_assoc] at H'
      exact ⟨pk_in _ 100 (by omega) (dn_ix10 u v), nm_e (nm_r (nI_1 v) (dn_w37 hG hT hu c (v + 1) _ (by omega) H'))⟩
    · rw [if_neg z, Nat.zero_add] at H'
      exact nm_r (nI_1 v) (dn_w37 hG hT hu c (v + 1) _ (by omega) H')
theorem dn_w4 {T : Nat} (hG : dn_G a b d a1 a2 a3) (hT : T < 8) :
    ∀ (c u s : Nat), u + c = 3 → post (nI (s + dn_wo (dn_pr a b d) T c u)) → wX_weight_4 post (nI T) 3 cs bt bb bs a1 a2 a3 a4 a5 a6 a7 (c + 1) (nI s) (nI u)
  | 0, u, s, hu, H => by
    have e3 : u = 3 := by omega
    subst e3
    exact br_t (by decide) H
  | c + 1, u, s, hu, H => by
    refine pk_le 3 u (fun z => absurd z (by omega)) (fun _ => ?_)
    rw [nI_clamp (show u < 2 ^ 31 by omega), dn_bit T hT u (by omega), hG.2.1 u (by omega), Int32.add_zero]
    have H' : post (nI (s + ((if T / 2 ^ u % 2 = 0 then 0 else dn_wi (dn_pr a b d) T u (2 - u) (u + 1)) + dn_wo (dn_pr a b d) T c (u + 1)))) := H
    refine pk_eq (T / 2 ^ u % 2) 0 (fun z => ?_) (fun z => ?_)
    · rw [if_pos z, Nat.zero_add] at H'
      exact nm_r (nI_1 u) (dn_w4 hG hT c (u + 1) _ (by omega) H')
    · rw [if_neg z, ← Nat.add_assoc] at H'
      exact ⟨pk_in u 10 (by omega), nm_e (nm_r (nI_1 u) ⟨2 - u + 1, dn_w37 hG hT (by omega) (2 - u) (u + 1) s (by omega) (dn_w4 hG hT c (u + 1) _ (by omega) H')⟩)⟩
theorem dn_weight {T : Nat} (hG : dn_G a b d a1 a2 a3) (hT : T < 8) (H : post (nI (dn_wt a b d T))) : wpX_weight post (3, cs, bt, bb, bs, a1, a2, a3, a4, a5, a6, a7) (nI T) :=
  ⟨4, dn_w4 hG hT 3 0 0 rfl (by rw [dn_wo_wt a b d T hT, Nat.zero_add]; exact H)⟩
theorem dn_m4 {T : Nat} (hT : T < 8) : ∀ (c v s : Nat), v + c = 10 → post (nI (s + dn_mb T c v)) → wX_members_4 post (nI T) (c + 1) (nI s) (nI v)
  | 0, v, s, hv, H => by
    have e : v = 10 := by omega
    subst e
    exact br_t (by decide) H
  | c + 1, v, s, hv, H => by
    refine pk_le 10 v (fun z => absurd z (by omega)) (fun _ => ?_)
    rw [dn_bit T hT v (by omega), nI_add]
    have H' : post (nI (s + (T / 2 ^ v % 2 + dn_mb T c (v + 1)))) := H
    rw [← Nat.add_assoc] at H'
    exact nm_e (nm_r (nI_1 v) (dn_m4 hT c (v + 1) _ (by omega) H'))
theorem dn_members {T : Nat} (hT : T < 8) (H : post (nI (dn_k T))) : wpX_members post () (nI T) :=
  ⟨11, dn_m4 hT 10 0 0 rfl (by rw [dn_mb_k T hT, Nat.zero_add]; exact H)⟩
theorem dn_g7 : ∀ (c i x y : Nat), i + c = 40 → y ≤ c → x < 1000000 → y < 1000000 → post (nI (Nat.gcd x y)) → wX_gcd_7 post (c + 1) (nI x) (nI y) (nI i)
  | 0, i, x, y, hi, hy, h1, h2, H => by
    have e : i = 40 := by omega
    have e2 : y = 0 := by omega
    subst e e2
    rw [Nat.gcd_zero_right] at H
    exact br_t (by decide) H
  | c + 1, i, x, y, hi, hy, h1, h2, H => by
    refine pk_le 40 i (fun z => absurd z (by omega)) (fun _ => pk_le y 0 (fun z => ?_) (fun z => ⟨nI_ne0 z (by omega), nm_r (pk_rem (by omega) z (by omega)) (nm_r (nI_1 i) ?_)⟩))
    · have e2 : y = 0 := by omega
      subst e2
      rw [Nat.gcd_zero_right] at H
      exact H
    · have hm : x % y < y := Nat.mod_lt x z
      refine dn_g7 c (i + 1) y (x % y) (by omega) (by omega) h2 (by omega) ?_
      rw [Nat.gcd_comm x y, Nat.gcd_rec y x, Nat.gcd_comm] at H
      exact H
theorem dn_gcd {x y : Nat} (hx : x < 1000000) (hy : y ≤ 40) (H : post (nI (Nat.gcd x y))) : wpX_gcd post () (nI x) (nI y) :=
  ⟨41, dn_g7 40 0 x y rfl hy hx (by omega) H⟩
theorem dn_wt_le {k : Nat} (ha : a ≤ k) (hb : b ≤ k) (hd : d ≤ k) (T : Nat) : dn_wt a b d T ≤ 3 * k := by
  unfold dn_wt
  repeat' split
  all_goals omega
theorem dn_k_le (T : Nat) : dn_k T ≤ 3 := by unfold dn_k; omega
theorem dn_wt_mul (g : Nat) : ∀ T, g * dn_wt a b d T = dn_wt (g * a) (g * b) (g * d) T := by
  intro T
  unfold dn_wt
  repeat' split
  all_goals first | rfl | (rw [Nat.mul_add, Nat.mul_add])
theorem dn_val {g p : Nat} (hA : g * a ≤ 250) (hB : g * b ≤ 250) (hD : g * d ≤ 250) (hp : p ≤ 2000) (T : Nat) : nI g * nI (dn_wt a b d T) - nI p * nI (dn_k T) = dn_I (dn_V (g * a) (g * b) (g * d) p T) := by
  have h1 := dn_wt_le hA hB hD T
  have h2 : p * dn_k T ≤ 2000 * 3 := Nat.mul_le_mul hp (dn_k_le T)
  rw [pk_mul, pk_mul, dn_wt_mul, dn_Isub (by omega) (by omega)]
  rfl
theorem dn_valueOf {g p T : Nat} (hG : dn_G a b d a1 a2 a3) (hA : g * a ≤ 250) (hB : g * b ≤ 250) (hD : g * d ≤ 250) (hp : p ≤ 2000) (hT : T < 8) (H : post (dn_I (dn_V (g * a) (g * b) (g * d) p T))) :
    wpX_valueOf post (3, cs, bt, bb, bs, a1, a2, a3, a4, a5, a6, a7) (nI T) (nI g) (nI p) := by
  refine dn_weight hG hT (dn_members hT ?_)
  rw [dn_val hA hB hD hp T]
  exact H
end
theorem dn_Vb {A B D p : Nat} (hA : A ≤ 250) (hB : B ≤ 250) (hD : D ≤ 250) (hp : p ≤ 2000) (T : Nat) : -1000000 < dn_V A B D p T ∧ dn_V A B D p T < 1000000 := by
  have h1 := dn_wt_le hA hB hD T
  have h2 : p * dn_k T ≤ 2000 * 3 := Nat.mul_le_mul hp (dn_k_le T)
  unfold dn_V
  omega
theorem dn_takeDensity {post : St2 → Prop} {cs bt bb bs : Int32} {a1 a2 a3 a4 a5 a6 a7 : Nat → Int32} {a b d T : Nat} (hG : dn_G a b d a1 a2 a3) (ha : a ≤ 15) (hb : b ≤ 15) (hd : d ≤ 15) (hT : T < 8) (h0 : 0 < dn_k T)
    (H : post (3, cs, nI (dn_wt a b d T / Nat.gcd (dn_wt a b d T) (dn_k T)), nI (dn_k T / Nat.gcd (dn_wt a b d T) (dn_k T)), nI T, a1, a2, a3, a4, a5, a6, a7)) :
    wpX_takeDensity post (3, cs, bt, bb, bs, a1, a2, a3, a4, a5, a6, a7) (nI T) := by
  have h1 := dn_wt_le ha hb hd T
  have h2 := dn_k_le T
  have h3 : 0 < Nat.gcd (dn_wt a b d T) (dn_k T) := Nat.gcd_pos_of_pos_right _ h0
  have h4 : Nat.gcd (dn_wt a b d T) (dn_k T) ≤ dn_k T := Nat.gcd_le_right _ h0
  refine dn_weight hG hT (dn_members hT (dn_gcd (by omega) (by omega) ?_))
  refine pk_le _ 1 (fun z => ?_) (fun z => ⟨nI_ne0 h3 (by omega), nm_r (pk_div (by omega) h3 (by omega)) ⟨nI_ne0 h3 (by omega), nm_r (pk_div (by omega) h3 (by omega)) H⟩⟩) rfl rfl (by omega) (by omega)
  have e : Nat.gcd (dn_wt a b d T) (dn_k T) = 1 := by omega
  rw [e, Nat.div_one, Nat.div_one] at H
  exact H
end
section
/-! ===== solve ===== -/
def dn_mx (a b d : Nat) : Nat := if b ≤ a then (if d ≤ a then a else d) else (if d ≤ b then b else d)
theorem dn_mx_ge (a b d : Nat) : a ≤ dn_mx a b d ∧ b ≤ dn_mx a b d ∧ d ≤ dn_mx a b d ∧ (dn_mx a b d = a ∨ dn_mx a b d = b ∨ dn_mx a b d = d) := by
  unfold dn_mx
  repeat' split
  all_goals omega
def dn_top (a b d : Nat) : Nat := if 2 * (a + b + d) < 3 * dn_mx a b d then dn_mx a b d / Nat.gcd (dn_mx a b d) 2 else (a + b + d) / Nat.gcd (a + b + d) 3
def dn_bot (a b d : Nat) : Nat := if 2 * (a + b + d) < 3 * dn_mx a b d then 2 / Nat.gcd (dn_mx a b d) 2 else 3 / Nat.gcd (a + b + d) 3
theorem dn_q3 (w : Nat) : (3 / Nat.gcd w 3 = 3 ∧ w / Nat.gcd w 3 = w) ∨ (3 / Nat.gcd w 3 = 1 ∧ 3 * (w / Nat.gcd w 3) = w) := by
  have h1 : Nat.gcd w 3 ≤ 3 := Nat.gcd_le_right _ (by decide)
  have h0 : 0 < Nat.gcd w 3 := Nat.gcd_pos_of_pos_right _ (by decide)
  obtain ⟨k, hk⟩ : Nat.gcd w 3 ∣ 3 := Nat.gcd_dvd_right w 3
  obtain ⟨l, hl⟩ : Nat.gcd w 3 ∣ w := Nat.gcd_dvd_left w 3
  generalize Nat.gcd w 3 = g at h0 h1 hk hl ⊢
  have hg : g = 1 ∨ g = 2 ∨ g = 3 := by omega
  rcases hg with rfl | rfl | rfl
  · exact Or.inl ⟨rfl, Nat.div_one w⟩
  · omega
  · exact Or.inr ⟨rfl, by omega⟩
theorem dn_q2 (w : Nat) : (2 / Nat.gcd w 2 = 2 ∧ w / Nat.gcd w 2 = w) ∨ (2 / Nat.gcd w 2 = 1 ∧ 2 * (w / Nat.gcd w 2) = w) := by
  have h1 : Nat.gcd w 2 ≤ 2 := Nat.gcd_le_right _ (by decide)
  have h0 : 0 < Nat.gcd w 2 := Nat.gcd_pos_of_pos_right _ (by decide)
  obtain ⟨l, hl⟩ : Nat.gcd w 2 ∣ w := Nat.gcd_dvd_left w 2
  generalize Nat.gcd w 2 = g at h0 h1 hl ⊢
  have hg : g = 1 ∨ g = 2 := by omega
  rcases hg with rfl | rfl
  · exact Or.inl ⟨rfl, Nat.div_one w⟩
  · exact Or.inr ⟨rfl, by omega⟩
theorem dn_tb (a b d : Nat) : (2 * (a + b + d) < 3 * dn_mx a b d ∧ ((dn_bot a b d = 2 ∧ dn_top a b d = dn_mx a b d) ∨ (dn_bot a b d = 1 ∧ 2 * dn_top a b d = dn_mx a b d))) ∨
    (3 * dn_mx a b d ≤ 2 * (a + b + d) ∧ ((dn_bot a b d = 3 ∧ dn_top a b d = a + b + d) ∨ (dn_bot a b d = 1 ∧ 3 * dn_top a b d = a + b + d))) := by
  unfold dn_top dn_bot
  by_cases h : 2 * (a + b + d) < 3 * dn_mx a b d
  · rw [if_pos h, if_pos h]
    exact Or.inl ⟨h, dn_q2 _⟩
  · rw [if_neg h, if_neg h]
    exact Or.inr ⟨by omega, dn_q3 _⟩
/-- the first round: the set of all -/
theorem dn_ph0 {a b d t o S : Nat} (hb : (o = 3 ∧ t = a + b + d) ∨ (o = 1 ∧ 3 * t = a + b + d)) (h : dn_max (o * a) (o * b) (o * d) t S) :
    (dn_V (o * a) (o * b) (o * d) t S ≤ 0 → ¬ 2 * (a + b + d) < 3 * dn_mx a b d) ∧ (¬ dn_V (o * a) (o * b) (o * d) t S ≤ 0 → dn_k S = 2 ∧ dn_wt a b d S = dn_mx a b d ∧ 2 * (a + b + d) < 3 * dn_mx a b d) := by
  obtain ⟨hS, h⟩ := h
  have h3 := (h 3 (by decide)).1
  have h5 := (h 5 (by decide)).1
  have h6 := (h 6 (by decide)).1
  obtain ⟨m1, m2, m3, m4⟩ := dn_mx_ge a b d
  clear h
  generalize dn_mx a b d = m at m1 m2 m3 m4 ⊢
  revert h3 h5 h6
  rw [dn_V3, dn_V5, dn_V6]
  refine dn_lt8 (P := fun S => ((o * a : Nat) : Int) - 2 * (t : Int) ≤ dn_V (o * a) (o * b) (o * d) t S → ((o * b : Nat) : Int) - 2 * (t : Int) ≤ dn_V (o * a) (o * b) (o * d) t S → ((o * d : Nat) : Int) - 2 * (t : Int) ≤ dn_V (o * a) (o * b) (o * d) t S → (dn_V (o * a) (o * b) (o * d) t S ≤ 0 → ¬ 2 * (a + b + d) < 3 * m) ∧ (¬ dn_V (o * a) (o * b) (o * d) t S ≤ 0 → dn_k S = 2 ∧ dn_wt a b d S = m ∧ 2 * (a + b + d) < 3 * m)) ?_ ?_ ?_ ?_ ?_ ?_ ?_ ?_ S hS
  all_goals
    simp only [dn_V0, dn_V1, dn_V2, dn_V3, dn_V4, dn_V5, dn_V6, dn_V7, dn_k, dn_wt]
    intro h3 h5 h6
    rcases hb with ⟨rfl, rfl⟩ | ⟨rfl, ht⟩
    · refine ⟨fun z => by omega, fun z => ?_⟩
      first
        | (exfalso; omega)
        | exact ⟨by trivial, by first | omega | (simp; omega), by omega⟩
    · refine ⟨fun z => by omega, fun z => ?_⟩
      first
        | (exfalso; omega)
        | exact ⟨by trivial, by first | omega | (simp; omega), by omega⟩
/-- the second round: nothing is better -/
theorem dn_ph1 {a b d t o : Nat} (h : 2 * (a + b + d) < 3 * dn_mx a b d) (hb : (o = 2 ∧ t = dn_mx a b d) ∨ (o = 1 ∧ 2 * t = dn_mx a b d)) : ∀ T, T < 8 → dn_V (o * a) (o * b) (o * d) t T ≤ 0 := by
  obtain ⟨m1, m2, m3, m4⟩ := dn_mx_ge a b d
  generalize dn_mx a b d = m at m1 m2 m3 m4 hb h
  apply dn_lt8
  all_goals
    simp only [dn_V0, dn_V1, dn_V2, dn_V3, dn_V4, dn_V5, dn_V6, dn_V7]
    rcases hb with ⟨rfl, rfl⟩ | ⟨rfl, ht⟩ <;> omega
theorem dn_ph2 (a b d : Nat) : ∃ T, T < 8 ∧ T ≠ 0 ∧ dn_V (dn_bot a b d * a) (dn_bot a b d * b) (dn_bot a b d * d) (dn_top a b d) T = 0 := by
  have h := dn_tb a b d
  obtain ⟨m1, m2, m3, m4⟩ := dn_mx_ge a b d
  generalize dn_mx a b d = m at m1 m2 m3 m4 h
  generalize dn_top a b d = t at h ⊢
  generalize dn_bot a b d = o at h ⊢
  rcases h with ⟨h1, h2⟩ | ⟨h1, h2⟩
  · rcases m4 with m4 | m4 | m4
    · refine ⟨3, by decide, by decide, ?_⟩
      rw [dn_V3]
      rcases h2 with ⟨rfl, h2⟩ | ⟨rfl, h2⟩ <;> omega
    · refine ⟨5, by decide, by decide, ?_⟩
      rw [dn_V5]
      rcases h2 with ⟨rfl, h2⟩ | ⟨rfl, h2⟩ <;> omega
    · refine ⟨6, by decide, by decide, ?_⟩
      rw [dn_V6]
      rcases h2 with ⟨rfl, h2⟩ | ⟨rfl, h2⟩ <;> omega
  · refine ⟨7, by decide, by decide, ?_⟩
    rw [dn_V7]
    rcases h2 with ⟨rfl, h2⟩ | ⟨rfl, h2⟩ <;> omega
theorem dn_Ile0 {z : Int} (h1 : -1000000 < z) (h2 : z < 1000000) : dn_I z ≤ 0 ↔ z ≤ 0 := by
  rw [Int32.le_iff_toInt_le, dn_It (by omega) (by omega), show (0 : Int32).toInt = 0 from by decide]
section
variable {post : Int32 → St2 → Prop} {a1 a2 a3 : Nat → Int32} {a b d : Nat}
theorem dn_s49s {cs bs : Int32} {a4 a5 a6 a7 : Nat → Int32} {n i t o : Nat} (hi : i < 60) (hG : dn_G a b d a1 a2 a3) (ha : a ≤ 15) (hb : b ≤ 15) (hd : d ≤ 15) (hA : o * a ≤ 250) (hB : o * b ≤ 250) (hD : o * d ≤ 250) (ht : t ≤ 2000)
    (H0 : ∀ (S : Nat) (a4 a5 a6 a7 : Nat → Int32), dn_max (o * a) (o * b) (o * d) t S → dn_V (o * a) (o * b) (o * d) t S ≤ 0 → post 1 (3, nI S, nI t, nI o, nI S, a1, a2, a3, a4, a5, a6, a7))
    (H1 : ∀ (S : Nat) (a4 a5 a6 a7 : Nat → Int32), dn_max (o * a) (o * b) (o * d) t S → ¬ dn_V (o * a) (o * b) (o * d) t S ≤ 0 → 0 < dn_k S ∧ wX_solve_49 post (n + 1) 1 (nI (i + 1)) 3 (nI S) (nI (dn_wt a b d S / Nat.gcd (dn_wt a b d S) (dn_k S))) (nI (dn_k S / Nat.gcd (dn_wt a b d S) (dn_k S))) (nI S) a1 a2 a3 a4 a5 a6 a7) :
    wX_solve_49 post (n + 2) 1 (nI i) 3 cs (nI t) (nI o) bs a1 a2 a3 a4 a5 a6 a7 := by
  refine pk_le 64 i (fun z => absurd z (by omega)) (fun _ => br_f (by decide) (dn_cut hG hA hB hD ht (fun S b4 b5 b6 b7 hS => dn_valueOf hG hA hB hD ht hS.1 ?_)))
  obtain ⟨v1, v2⟩ := dn_Vb hA hB hD ht S
  refine ek_if (dn_Ile0 v1 v2) (fun z => br_t rfl (nm_r (nI_1 i) ?_)) (fun z => br_f (by decide) ?_)
  · exact pk_le 64 (i + 1) (fun z => absurd z (by omega)) (fun _ => br_t rfl (H0 S b4 b5 b6 b7 hS z))
  · obtain ⟨k0, h⟩ := H1 S b4 b5 b6 b7 hS z
    exact dn_takeDensity hG ha hb hd hS.1 k0 (nm_r (nI_1 i) h)
theorem dn_so4s {cs bt bb bs : Int32} {a4 a5 a6 a7 : Nat → Int32} {n k s : Nat} (hG : dn_G a b d a1 a2 a3) (hk : k < 3) (hs : s < 2 ^ k) (hs8 : s < 8) (H : wX_solve_4 post 3 cs bt bb bs a1 a2 a3 a4 a5 a6 a7 n (nI (s + 2 ^ k)) (nI (k + 1))) :
    wX_solve_4 post 3 cs bt bb bs a1 a2 a3 a4 a5 a6 a7 (n + 1) (nI s) (nI k) := by
  refine pk_le 3 k (fun z => absurd z (by omega)) (fun _ => ⟨pk_in k 10 (by omega), ?_⟩)
  rw [nI_clamp (show k < 2 ^ 31 by omega), hG.2.2 k hk]
  exact br_f (by decide) (nm_r (dn_orS k hk s hs8 hs) (nm_r (nI_1 k) H))
/-- what solve leaves -/
def dn_ans (a b d S : Nat) : Prop := dn_max (dn_bot a b d * a) (dn_bot a b d * b) (dn_bot a b d * d) (dn_top a b d) S ∧ dn_V (dn_bot a b d * a) (dn_bot a b d * b) (dn_bot a b d * d) (dn_top a b d) S = 0
theorem dn_bb {k x o : Nat} (hx : x ≤ 15) (ho : o ≤ 3) (hk : 45 ≤ k) : o * x ≤ k := by
  have h : o * x ≤ 3 * 15 := Nat.mul_le_mul ho hx
  omega
theorem dn_tb_le {a b d : Nat} (ha : a ≤ 15) (hb : b ≤ 15) (hd : d ≤ 15) : dn_top a b d ≤ 45 ∧ 1 ≤ dn_bot a b d ∧ dn_bot a b d ≤ 3 := by
  have h := dn_tb a b d
  obtain ⟨m1, m2, m3, m4⟩ := dn_mx_ge a b d
  omega
theorem dn_max0 {A B D p S : Nat} (h : dn_max A B D p S) (h0 : dn_V A B D p S ≤ 0) : dn_V A B D p S = 0 := by
  have t := (h.2 0 (by decide)).1
  rw [dn_V0] at t
  omega
theorem dn_solve {cs bt bb bs : Int32} {a4 a5 a6 a7 : Nat → Int32} (hG : dn_G a b d a1 a2 a3) (ha : a ≤ 15) (hb : b ≤ 15) (hd : d ≤ 15)
    (H : ∀ (S : Nat) (cs : Int32) (a4 a5 a6 a7 : Nat → Int32), S < 8 → dn_ans a b d S → post 1 (3, cs, nI (dn_top a b d), nI (dn_bot a b d), nI S, a1, a2, a3, a4, a5, a6, a7)) :
    wpX_solve post (3, cs, bt, bb, bs, a1, a2, a3, a4, a5, a6, a7) := by
  refine ⟨4, dn_so4s (k := 0) (s := 0) hG (by decide) (by decide) (by decide) (dn_so4s (k := 1) (s := 1) hG (by decide) (by decide) (by decide) (dn_so4s (k := 2) (s := 3) hG (by decide) (by decide) (by decide) (br_t (by decide) (br_f (by decide) (dn_takeDensity (T := 7) hG ha hb hd (by decide) (by decide) ⟨3, ?_⟩)))))⟩
  have q := dn_q3 (a + b + d)
  obtain ⟨m1, m2, m3, m4⟩ := dn_mx_ge a b d
  have tbl := dn_tb_le ha hb hd
  show wX_solve_49 post 3 1 (nI 0) 3 cs (nI ((a + b + d) / Nat.gcd (a + b + d) 3)) (nI (3 / Nat.gcd (a + b + d) 3)) (nI 7) a1 a2 a3 a4 a5 a6 a7
  have o3 : 3 / Nat.gcd (a + b + d) 3 ≤ 3 := by omega
  have t45 : (a + b + d) / Nat.gcd (a + b + d) 3 ≤ 45 := by omega
  refine dn_s49s (by decide) hG ha hb hd (dn_bb ha o3 (by decide)) (dn_bb hb o3 (by decide)) (dn_bb hd o3 (by decide)) (by omega) (fun S b4 b5 b6 b7 hS hV => ?_) (fun S b4 b5 b6 b7 hS hV => ?_)
  · have hn := (dn_ph0 q hS).1 hV
    have et : dn_top a b d = (a + b + d) / Nat.gcd (a + b + d) 3 := if_neg hn
    have eo : dn_bot a b d = 3 / Nat.gcd (a + b + d) 3 := if_neg hn
    have K := H S (nI S) b4 b5 b6 b7 hS.1
    unfold dn_ans at K
    rw [et, eo] at K
    exact K ⟨hS, dn_max0 hS hV⟩
  · obtain ⟨k2, w2, hn⟩ := (dn_ph0 q hS).2 hV
    have et : dn_top a b d = dn_mx a b d / Nat.gcd (dn_mx a b d) 2 := if_pos hn
    have eo : dn_bot a b d = 2 / Nat.gcd (dn_mx a b d) 2 := if_pos hn
    rw [k2, w2, ← et, ← eo]
    refine ⟨by decide, ?_⟩
    have r := dn_tb a b d
    have al := dn_ph1 hn (show (dn_bot a b d = 2 ∧ dn_top a b d = dn_mx a b d) ∨ (dn_bot a b d = 1 ∧ 2 * dn_top a b d = dn_mx a b d) by omega)
    exact dn_s49s (by decide) hG ha hb hd (dn_bb ha tbl.2.2 (by decide)) (dn_bb hb tbl.2.2 (by decide)) (dn_bb hd tbl.2.2 (by decide)) (by omega) (fun S' c4 c5 c6 c7 hS' hV' => H S' (nI S') c4 c5 c6 c7 hS'.1 ⟨hS', dn_max0 hS' hV'⟩) (fun S' c4 c5 c6 c7 hS' hV' => absurd (al S' hS'.1) hV')
theorem dn_densityTop {cs bt bb bs : Int32} {a4 a5 a6 a7 : Nat → Int32} (hG : dn_G a b d a1 a2 a3) (ha : a ≤ 15) (hb : b ≤ 15) (hd : d ≤ 15)
    (H : ∀ (cs bt bb bs : Int32) (a4 a5 a6 a7 : Nat → Int32), post (nI (dn_top a b d)) (3, cs, bt, bb, bs, a1, a2, a3, a4, a5, a6, a7)) :
    wpX_densityTop post (3, cs, bt, bb, bs, a1, a2, a3, a4, a5, a6, a7) :=
  dn_solve hG ha hb hd (fun S c a4 a5 a6 a7 _ _ => br_f (by decide) (H _ _ _ _ _ _ _ _))
theorem dn_densityBottom {cs bt bb bs : Int32} {a4 a5 a6 a7 : Nat → Int32} (hG : dn_G a b d a1 a2 a3) (ha : a ≤ 15) (hb : b ≤ 15) (hd : d ≤ 15)
    (H : ∀ (cs bt bb bs : Int32) (a4 a5 a6 a7 : Nat → Int32), post (nI (dn_bot a b d)) (3, cs, bt, bb, bs, a1, a2, a3, a4, a5, a6, a7)) :
    wpX_densityBottom post (3, cs, bt, bb, bs, a1, a2, a3, a4, a5, a6, a7) :=
  dn_solve hG ha hb hd (fun S c a4 a5 a6 a7 _ _ => br_f (by decide) (H _ _ _ _ _ _ _ _))
theorem dn_densest {cs bt bb bs : Int32} {a4 a5 a6 a7 : Nat → Int32} (hG : dn_G a b d a1 a2 a3) (ha : a ≤ 15) (hb : b ≤ 15) (hd : d ≤ 15)
    (H : ∀ (S : Nat) (cs bt bb bs : Int32) (a4 a5 a6 a7 : Nat → Int32), S < 8 → dn_ans a b d S → post (nI S) (3, cs, bt, bb, bs, a1, a2, a3, a4, a5, a6, a7)) :
    wpX_densest post (3, cs, bt, bb, bs, a1, a2, a3, a4, a5, a6, a7) :=
  dn_solve hG ha hb hd (fun S c a4 a5 a6 a7 h1 h2 => br_f (by decide) (H S _ _ _ _ _ _ _ _ h1 h2))
end
end
section
/-! ===== excess, worth, the law's loops ===== -/
/-- the law's loops over the sets below k: b is the most, s the union of those worth b -/
def dn_L (V : Nat → Int) (k : Nat) (b : Int) (s : Nat) : Prop :=
  s < 8 ∧ (∃ T, T < k ∧ V T = b) ∧ (∀ T, T < k → V T ≤ b ∧ (V T = b → T ||| s = s)) ∧ (∀ Z, Z < 8 → (∀ T, T < k → V T = b → T ||| Z = Z) → s ||| Z = Z)
theorem dn_L0 {V : Nat → Int} (h : V 0 = 0) : dn_L V 1 0 0 := by
  refine ⟨by decide, ⟨0, by decide, h⟩, fun T hT => ?_, fun Z _ _ => Nat.zero_or Z⟩
  have e : T = 0 := by omega
  subst e
  exact ⟨by omega, fun _ => rfl⟩
theorem dn_Lgt {V : Nat → Int} {k s : Nat} {b : Int} (h : dn_L V k b s) (hk : k < 8) (hv : b < V k) : dn_L V (k + 1) (V k) k := by
  obtain ⟨h1, h2, h3, h4⟩ := h
  refine ⟨hk, ⟨k, by omega, rfl⟩, fun T hT => ?_, fun Z _ hZ => hZ k (by omega) rfl⟩
  by_cases e : T = k
  · subst e
    exact ⟨Int.le_refl _, fun _ => Nat.or_self T⟩
  · have t := (h3 T (by omega)).1
    exact ⟨by omega, fun g => absurd g (by omega)⟩
theorem dn_Leq {V : Nat → Int} {k s : Nat} {b : Int} (h : dn_L V k b s) (hk : k < 8) (hv : V k = b) : dn_L V (k + 1) b (s ||| k) := by
  obtain ⟨h1, ⟨T0, t1, t2⟩, h3, h4⟩ := h
  refine ⟨Nat.or_lt_two_pow (n := 3) h1 hk, ⟨T0, by omega, t2⟩, fun T hT => ?_, fun Z hz hZ => ?_⟩
  · by_cases e : T = k
    · subst e
      refine ⟨by omega, fun _ => ?_⟩
      rw [Nat.or_comm s T, ← Nat.or_assoc, Nat.or_self]
    · obtain ⟨u1, u2⟩ := h3 T (by omega)
      refine ⟨u1, fun g => ?_⟩
      rw [← Nat.or_assoc, u2 g]
  · rw [Nat.or_assoc, hZ k (by omega) hv]
    exact h4 Z hz (fun T hT g => hZ T (by omega) g)
theorem dn_Llt {V : Nat → Int} {k s : Nat} {b : Int} (h : dn_L V k b s) (hv : V k < b) : dn_L V (k + 1) b s := by
  obtain ⟨h1, ⟨T0, t1, t2⟩, h3, h4⟩ := h
  refine ⟨h1, ⟨T0, by omega, t2⟩, fun T hT => ?_, fun Z hz hZ => h4 Z hz (fun T hT g => hZ T (by omega) g)⟩
  by_cases e : T = k
  · subst e
    exact ⟨by omega, fun g => absurd g (by omega)⟩
  · exact h3 T (by omega)
theorem dn_Lend {A B D p s S : Nat} {b : Int} (h : dn_L (dn_V A B D p) 8 b s) (hS : dn_max A B D p S) : b = dn_V A B D p S ∧ s = S := by
  obtain ⟨h1, ⟨T0, t1, t2⟩, h3, h4⟩ := h
  have e : b = dn_V A B D p S := by
    have u1 := (hS.2 T0 t1).1
    have u2 := (h3 S hS.1).1
    omega
  refine ⟨e, ?_⟩
  have u1 := (h3 S hS.1).2 e.symm
  have u2 := h4 S hS.1 (fun T hT g => (hS.2 T hT).2 (by rw [g, e]))
  rw [← u1, Nat.or_comm, u2]
theorem dn_or8 : ∀ s, s < 8 → ∀ k, k < 8 → nI s ||| nI k = nI (s ||| k) := by decide +kernel
theorem dn_kb : ∀ T, T < 8 → ((nI T &&& 1) + ((nI T >>> ((1 : Int32) &&& 31)) &&& 1)) + ((nI T >>> ((2 : Int32) &&& 31)) &&& 1) = nI (dn_k T) := by decide +kernel
theorem dn_worth {post : Int32 → Prop} {a b d g p T : Nat} (hA : g * a ≤ 250) (hB : g * b ≤ 250) (hD : g * d ≤ 250) (hp : p ≤ 2000) (hT : T < 8) (H : post (dn_I (dn_V (g * a) (g * b) (g * d) p T))) :
    wpL_worth post () (nI a) (nI b) (nI d) (nI T) (nI g) (nI p) := by
  have key : ∀ w, w = nI (dn_wt a b d T) → wL_worth_50 post (nI T) (nI g) (nI p) w := by
    intro w hw
    refine nm_r (dn_kb T hT) ?_
    rw [hw, dn_val hA hB hD hp T]
    exact H
  clear H
  revert key
  refine dn_lt8 (P := fun T => (∀ w, w = nI (dn_wt a b d T) → wL_worth_50 post (nI T) (nI g) (nI p) w) → wpL_worth post () (nI a) (nI b) (nI d) (nI T) (nI g) (nI p)) ?_ ?_ ?_ ?_ ?_ ?_ ?_ ?_ T hT
  · exact fun key => br_f (by decide) (br_f (by decide) (br_f (by decide) (key _ rfl)))
  · exact fun key => br_f (by decide) (br_f (by decide) (br_f (by decide) (key _ rfl)))
  · exact fun key => br_f (by decide) (br_f (by decide) (br_f (by decide) (key _ rfl)))
  · exact fun key => br_t (by decide) (br_f (by decide) (br_f (by decide) (key _ rfl)))
  · exact fun key => br_f (by decide) (br_f (by decide) (br_f (by decide) (key _ rfl)))
  · exact fun key => br_f (by decide) (br_t (by decide) (br_f (by decide) (key _ (Int32.zero_add _))))
  · exact fun key => br_f (by decide) (br_f (by decide) (br_t (by decide) (key _ (Int32.zero_add _))))
  · exact fun key => br_t (by decide) (br_t (by decide) (br_t (by decide) (key _ (by rw [nI_add, nI_add]; rfl))))
theorem dn_badPrice {post : Int32 → Prop} {g p : Nat} (h1 : 1 ≤ g) (h2 : g ≤ 20) (hp : p ≤ 2000) (H : post 0) : wpX_badPrice post () (nI g) (nI p) :=
  pk_lt g 1 (fun z => absurd z (by omega)) (fun _ => pk_lt 20 g (fun z => absurd z (by omega)) (fun _ => pk_lt p 0 (fun z => absurd z (by omega)) (fun _ => pk_le p 2000 (fun _ => H) (fun z => absurd z (by omega)))))
section
variable {post : Int32 → St2 → Prop} {a1 a2 a3 : Nat → Int32} {a b d g p : Nat}
theorem dn_excess {cs bt bb bs : Int32} {a4 a5 a6 a7 : Nat → Int32} (hG : dn_G a b d a1 a2 a3) (h1 : 1 ≤ g) (h2 : g ≤ 20) (hA : g * a ≤ 250) (hB : g * b ≤ 250) (hD : g * d ≤ 250) (hp : p ≤ 2000)
    (H : ∀ (S : Nat) (cs bt bb bs : Int32) (a4 a5 a6 a7 : Nat → Int32), dn_max (g * a) (g * b) (g * d) p S → post (dn_I (dn_V (g * a) (g * b) (g * d) p S)) (3, cs, bt, bb, bs, a1, a2, a3, a4, a5, a6, a7)) :
    wpX_excess post (3, cs, bt, bb, bs, a1, a2, a3, a4, a5, a6, a7) (nI g) (nI p) := by
  unfold wpX_excess
  dsimp only
  refine dn_badPrice h1 h2 hp ?_
  exact br_t rfl (dn_cut hG hA hB hD hp (fun S b4 b5 b6 b7 hS => dn_valueOf hG hA hB hD hp hS.1 (H S _ _ _ _ b4 b5 b6 b7 hS)))
theorem dn_excessSet {cs bt bb bs : Int32} {a4 a5 a6 a7 : Nat → Int32} (hG : dn_G a b d a1 a2 a3) (h1 : 1 ≤ g) (h2 : g ≤ 20) (hA : g * a ≤ 250) (hB : g * b ≤ 250) (hD : g * d ≤ 250) (hp : p ≤ 2000)
    (H : ∀ (S : Nat) (cs bt bb bs : Int32) (a4 a5 a6 a7 : Nat → Int32), dn_max (g * a) (g * b) (g * d) p S → post (nI S) (3, cs, bt, bb, bs, a1, a2, a3, a4, a5, a6, a7)) :
    wpX_excessSet post (3, cs, bt, bb, bs, a1, a2, a3, a4, a5, a6, a7) (nI g) (nI p) := by
  unfold wpX_excessSet
  dsimp only
  refine dn_badPrice h1 h2 hp ?_
  exact br_t rfl (dn_cut hG hA hB hD hp (fun S b4 b5 b6 b7 hS => H S _ _ _ _ b4 b5 b6 b7 hS))
theorem dn_excessBad {cs bt bb bs : Int32} {a4 a5 a6 a7 : Nat → Int32} (h1 : 1 ≤ g) (h2 : g ≤ 20)
    (H : post (-4) (3, cs, bt, bb, bs, a1, a2, a3, a4, a5, a6, a7)) :
    wpX_excess post (3, cs, bt, bb, bs, a1, a2, a3, a4, a5, a6, a7) (nI g) 2001 :=
  pk_lt g 1 (fun z => absurd z (by omega)) (fun _ => pk_lt 20 g (fun z => absurd z (by omega)) (fun _ => br_f (by decide) (br_f (by decide) (br_f (by decide) H))))
end
theorem dn_ph3 (a b d : Nat) : ∀ T, T < 8 → dn_V (dn_bot a b d * a) (dn_bot a b d * b) (dn_bot a b d * d) (dn_top a b d) T ≤ 0 := by
  rcases dn_tb a b d with ⟨h1, h2⟩ | ⟨h1, h2⟩
  · exact dn_ph1 h1 h2
  · obtain ⟨m1, m2, m3, m4⟩ := dn_mx_ge a b d
    generalize dn_mx a b d = m at m1 m2 m3 m4 h1
    generalize dn_top a b d = t at h2 ⊢
    generalize dn_bot a b d = o at h2 ⊢
    apply dn_lt8
    all_goals
      simp only [dn_V0, dn_V1, dn_V2, dn_V3, dn_V4, dn_V5, dn_V6, dn_V7]
      rcases h2 with ⟨rfl, rfl⟩ | ⟨rfl, ht⟩ <;> omega
theorem dn_Ieq0 {z : Int} (h1 : -1000000 < z) (h2 : z < 1000000) : dn_I z = 0 ↔ z = 0 := by
  rw [← Int32.toInt_inj, dn_It (by omega) (by omega), show (0 : Int32).toInt = 0 from by decide]
section
variable {post : Int32 → St0 → Prop} {mc ms kc ks : Nat} {a1 a2 a3 : Nat → Int32} {a b d g p : Nat}
theorem dn_l209 {cs bt bb bs : Int32} {a4 a5 a6 a7 : Nat → Int32} (hG : dn_G a b d a1 a2 a3) (ha : a ≤ 15) (hb : b ≤ 15) (hd : d ≤ 15) (h1 : 1 ≤ g) (h2 : g ≤ 20) (H : post 1 ()) :
    ∀ (c k s : Nat), k + c = 8 → dn_L (dn_V (dn_bot a b d * a) (dn_bot a b d * b) (dn_bot a b d * d) (dn_top a b d)) k 0 s →
      wL_lawOf_209 post mc ms (nI a) (nI b) (nI d) (nI g) (nI (dn_top a b d)) (nI (dn_bot a b d)) kc ks 3 cs bt bb bs a1 a2 a3 a4 a5 a6 a7 (c + 1) (nI s) (nI k)
  | 0, k, s, hk, hL => by
    have e8 : k = 8 := by omega
    subst e8
    refine br_t (by decide) (pk_eq s 0 (fun z => ?_) (fun z => dn_densest hG ha hb hd (fun S _ _ _ _ _ _ _ _ hS hA => br_t ?_ (dn_excessBad h1 h2 (br_t rfl H)))) rfl rfl (by have := hL.1; omega) (by decide))
    · obtain ⟨T, t1, t2, t3⟩ := dn_ph2 a b d
      have u := (hL.2.2.1 T t1).2 t3
      rw [z, Nat.or_zero] at u
      exact absurd u t2
    · rw [(dn_Lend hL hA.1).2]
  | c + 1, k, s, hk, hL => by
    have tbl := dn_tb_le ha hb hd
    have A1 := dn_bb (k := 250) ha tbl.2.2 (by decide)
    have B1 := dn_bb (k := 250) hb tbl.2.2 (by decide)
    have D1 := dn_bb (k := 250) hd tbl.2.2 (by decide)
    have p1 : dn_top a b d ≤ 2000 := by omega
    obtain ⟨v1, v2⟩ := dn_Vb A1 B1 D1 p1 k
    have v3 := dn_ph3 a b d k (by omega)
    refine pk_le 8 k (fun z => absurd z (by omega)) (fun _ => dn_worth A1 B1 D1 p1 (by omega) (br_t ((dn_Ile0 v1 v2).mpr v3) (ek_if (dn_Ieq0 v1 v2) (fun z => ?_) (fun z => ?_))))
    · exact nm_r (dn_or8 s hL.1 k (by omega)) (nm_r (nI_1 k) (dn_l209 hG ha hb hd h1 h2 H c (k + 1) _ (by omega) (dn_Leq hL (by omega) z)))
    · exact nm_r (nI_1 k) (dn_l209 hG ha hb hd h1 h2 H c (k + 1) _ (by omega) (dn_Llt hL (by omega)))
theorem dn_l83 {cs bt bb bs : Int32} {a4 a5 a6 a7 : Nat → Int32} (hG : dn_G a b d a1 a2 a3) (ha : a ≤ 15) (hb : b ≤ 15) (hd : d ≤ 15) (h1 : 1 ≤ g) (h2 : g ≤ 16) (hp : p ≤ 2000) (H : post 1 ()) :
    ∀ (c k s : Nat) (v : Int), k + c = 8 → -1000000 < v → v < 1000000 → dn_L (dn_V (g * a) (g * b) (g * d) p) k v s →
      wL_lawOf_83 post mc ms (nI a) (nI b) (nI d) (nI g) (nI p) kc ks 3 cs bt bb bs a1 a2 a3 a4 a5 a6 a7 (c + 1) (dn_I v) (nI s) (nI k) := by
  have A1 : g * a ≤ 250 := by have h : g * a ≤ 16 * 15 := Nat.mul_le_mul h2 ha; omega
  have B1 : g * b ≤ 250 := by have h : g * b ≤ 16 * 15 := Nat.mul_le_mul h2 hb; omega
  have D1 : g * d ≤ 250 := by have h : g * d ≤ 16 * 15 := Nat.mul_le_mul h2 hd; omega
  have tbl := dn_tb_le ha hb hd
  intro c
  induction c with
  | zero =>
    intro k s v hk _ _ hL
    have e8 : k = 8 := by omega
    subst e8
    refine br_t (by decide) (dn_excess hG h1 (by omega) A1 B1 D1 hp (fun S _ _ _ _ _ _ _ _ hS => br_t ?_ (dn_excessSet hG h1 (by omega) A1 B1 D1 hp (fun S' _ _ _ _ _ _ _ _ hS' => br_t ?_ (dn_densityTop hG ha hb hd (fun _ _ _ _ _ _ _ _ => dn_densityBottom hG ha hb hd (fun _ _ _ _ _ _ _ _ => ?_)))))))
    · rw [(dn_Lend hL hS).1]
    · rw [(dn_Lend hL hS').2]
    · exact pk_lt (dn_bot a b d) 1 (fun z => absurd z (by omega)) (fun _ => pk_le (dn_bot a b d) 3 (fun _ => ⟨8, dn_l209 hG ha hb hd h1 (by omega) H 7 1 0 rfl (dn_L0 (dn_V0 _ _ _ _))⟩) (fun z => absurd z (by omega)))
  | succ c ih =>
    intro k s v hk hv1 hv2 hL
    obtain ⟨v1, v2⟩ := dn_Vb A1 B1 D1 hp k
    refine pk_le 8 k (fun z => absurd z (by omega)) (fun _ => dn_worth A1 B1 D1 hp (by omega) (ek_if (dn_Ile (by omega) (by omega) (by omega) (by omega)) (fun z => ek_if (dn_Ieq (by omega) (by omega) (by omega) (by omega)) (fun z2 => ?_) (fun z2 => ?_)) (fun z => ?_)))
    · exact nm_r (dn_or8 s hL.1 k (by omega)) (nm_r (nI_1 k) (ih (k + 1) _ v (by omega) hv1 hv2 (dn_Leq hL (by omega) z2)))
    · exact nm_r (nI_1 k) (ih (k + 1) _ v (by omega) hv1 hv2 (dn_Llt hL (by omega)))
    · exact nm_r (nI_1 k) (ih (k + 1) k _ (by omega) v1 v2 (dn_Lgt hL (by omega) (by omega)))
end
theorem dn_edge {post : Int32 → St2 → Prop} {cs bt bb bs : Int32} {a1 a2 a3 a4 a5 a6 a7 : Nat → Int32} (u v w : Nat) (hu : u < 3) (hv : v < 3) (hn : u ≠ v) (hw : w ≤ 20)
    (H : ∀ old, post old (3, cs, bt, bb, bs, upd (upd a1 (u * 10 + v) (nI w)) (v * 10 + u) (nI w), a2, a3, a4, a5, a6, a7)) :
    wpX_edge post (3, cs, bt, bb, bs, a1, a2, a3, a4, a5, a6, a7) (nI u) (nI v) (nI w) := by
  have e1 : (nI u * 10 + nI v).toNatClampNeg = u * 10 + v := by rw [dn_ix10, nI_clamp (by omega)]
  have e2 : (nI v * 10 + nI u).toNatClampNeg = v * 10 + u := by rw [dn_ix10, nI_clamp (by omega)]
  refine pk_lt u 0 (fun z => absurd z (by omega)) (fun _ => pk_lt u 3 (fun _ => br_t rfl (pk_lt v 0 (fun z => absurd z (by omega)) (fun _ => pk_lt v 3 (fun _ => br_t rfl (pk_eq u v (fun z => absurd z hn) (fun _ => pk_lt w 0 (fun z => absurd z (by omega)) (fun _ => pk_le w 20 (fun _ => ?_) (fun z => absurd z (by omega)))))) (fun z => absurd z (by omega))))) (fun z => absurd z (by omega)))
  rw [e1, e2]
  exact ⟨pk_in _ 100 (by omega) (dn_ix10 u v), nm_e ⟨pk_in _ 100 (by omega) (dn_ix10 u v), nm_e ⟨pk_in _ 100 (by omega) (dn_ix10 v u), nm_e (H _)⟩⟩⟩
theorem dn_lawOf {post : Int32 → St0 → Prop} (p0 p1 p2 p3 p4 : Int32) (H : post 1 ()) : wpL_lawOf post 8 312 () p0 p1 p2 p3 p4 := by
  obtain ⟨a, ha, ea⟩ := pk_andE p0 (m := 15) 4 (by decide)
  obtain ⟨b, hb, eb⟩ := pk_andE p1 (m := 15) 4 (by decide)
  obtain ⟨d, hd, ed⟩ := pk_andE p2 (m := 15) 4 (by decide)
  obtain ⟨g, hg, eg⟩ := pk_andE p3 (m := 15) 4 (by decide)
  obtain ⟨p, hp, ep⟩ := pk_andE p4 (m := 1023) 10 (by decide)
  refine ⟨by decide, by decide, 7, 300, by decide, by decide, by decide, by decide, by decide, by decide, by decide, by decide, by decide, by decide, by decide, by decide, by decide, by decide, by decide, by decide, br_t (by decide) (br_t (by decide) ?_)⟩
  refine nm_r ea (nm_r eb (nm_r ed (dn_edge 0 1 a (by omega) (by omega) (by omega) (by omega) (fun _ => dn_edge 0 2 b (by omega) (by omega) (by omega) (by omega) (fun _ => dn_edge 2 1 d (by omega) (by omega) (by omega) (by omega) (fun _ => ?_))))))
  have e9 : (1 : Int32) + (p3 &&& 15) = nI (1 + g) := by rw [eg]; exact nI_add 1 g
  refine nm_r e9 (nm_r ep ⟨8, dn_l83 (a := a) (b := b) (d := d) ⟨?_, fun _ _ => rfl, fun _ _ => rfl⟩ (by omega) (by omega) (by omega) (by omega) (by omega) (by omega) H 7 1 0 0 rfl (by decide) (by decide) (dn_L0 (dn_V0 _ _ _ _))⟩)
  intro u v hu hv
  have h : (u = 0 ∨ u = 1 ∨ u = 2) ∧ (v = 0 ∨ v = 1 ∨ v = 2) := by omega
  rcases h with ⟨rfl | rfl | rfl, rfl | rfl | rfl⟩ <;> rfl
theorem dn_cell {post : Int32 → Prop} {L : Nat} {xs : Nat → Int32} (hL : L ≤ 5) (i : Nat) (hi : i < 5) (H : ∀ x, post x) : wpL_cellAt post L xs () (nI i) :=
  pk_le L i (fun _ => H 0) (fun z => ⟨pk_in i L z, H _⟩)
theorem i_vc (xs : Nat → Int32) (L : Nat) (hL : L ≤ 5) : wpL_law (fun r => r = 1) L xs :=
  dn_cell hL 0 (by decide) (fun p0 => dn_cell hL 1 (by decide) (fun p1 => dn_cell hL 2 (by decide) (fun p2 => dn_cell hL 3 (by decide) (fun p3 => dn_cell hL 4 (by decide) (fun p4 => ⟨8, 312, by decide, by decide, dn_lawOf p0 p1 p2 p3 p4 rfl⟩)))))
end
